section
theorem pk_us {f : Nat → Int32} {k : Nat} {x : Int32} : upd f k x k = x := if_pos rfl
theorem pk_un {f : Nat → Int32} {k j : Nat} {x : Int32} (h : j ≠ k) : upd f k x j = f j := if_neg h
theorem pk_uLs {f : Nat → Int64} {k : Nat} {x : Int64} : vp_updL f k x k = x := if_pos rfl
theorem pk_uLn {f : Nat → Int64} {k j : Nat} {x : Int64} (h : j ≠ k) : vp_updL f k x j = f j := if_neg h
theorem pk_sub {a b : Nat} (h : b ≤ a) : nI a - nI b = nI (a - b) := by
  obtain ⟨c, rfl⟩ : ∃ c, a = c + b := ⟨a - b, by omega⟩
  rw [← nI_add, Int32.add_sub_cancel, Nat.add_sub_cancel]
theorem pk_m1 (n : Nat) : nI (n + 1) + (-1) = nI n := by
  rw [← nI_1, Int32.add_assoc, show (1 : Int32) + (-1) = 0 from rfl, Int32.add_zero]
theorem pk_mul (a b : Nat) : nI a * nI b = nI (a * b) := (Int32.ofNat_mul a b).symm
theorem pk_div {a d : Nat} (ha : a < 2 ^ 31) (h0 : 0 < d) (hd : d < 2 ^ 31) : nI a / nI d = nI (a / d) := by
  apply Int32.toInt_inj.mp
  rw [lg_idiv_nonneg (by rw [nI_toInt ha]; omega) (by rw [nI_toInt hd]; omega), nI_toInt ha, nI_toInt hd, nI_toInt (Nat.lt_of_le_of_lt (Nat.div_le_self a d) ha)]
  first | rfl | exact (Int.natCast_ediv _ _).symm
theorem pk_rem {a d : Nat} (ha : a < 2 ^ 31) (h0 : 0 < d) (hd : d < 2 ^ 31) : nI a - nI a / nI d * nI d = nI (a % d) := by
  rw [pk_div ha h0 hd, pk_mul, pk_sub (Nat.div_mul_le_self a d)]
  exact congrArg nI (by have := Nat.div_add_mod' a d; omega)
theorem pk_sub_toInt {a b : Nat} (ha : a < 2 ^ 30) (hb : b < 2 ^ 30) : (nI a - nI b).toInt = (a : Int) - b := by
  rw [Int32.toInt_sub, nI_toInt (by omega), nI_toInt (by omega)]
  exact Int.bmod_eq_of_le (by omega) (by omega)
theorem pk_sneg {a b : Nat} (hb : b < 2 ^ 30) (h : a < b) : nI a - nI b < 0 := by
  rw [Int32.lt_iff_toInt_lt, pk_sub_toInt (by omega) hb, show (0 : Int32).toInt = 0 from by decide]
  omega
theorem pk_ix (x : Int32) {n : Nat} (hn : n < 2 ^ 31) : x < 0 ∨ nI n ≤ x ∨ ∃ j : Nat, j < n ∧ x = nI j := by
  by_cases h : x < 0
  · exact Or.inl h
  · obtain ⟨j, hj, rfl⟩ := nI_of h
    by_cases h2 : j < n
    · exact Or.inr (Or.inr ⟨j, h2, rfl⟩)
    · exact Or.inr (Or.inl (nI_le (by omega) hj))
theorem pk_le {x y : Int32} {A B : Prop} (a b : Nat) (f : a ≤ b → A) (g : b < a → B) (hx : x = nI a := by rfl) (hy : y = nI b := by rfl) (ha : a < 2 ^ 31 := by omega) (hb : b < 2 ^ 31 := by omega) : (x ≤ y → A) ∧ (¬ x ≤ y → B) := by
  subst hx hy
  rw [nI_leI ha hb]
  exact ⟨f, fun z => g (by omega)⟩
theorem pk_lt {x y : Int32} {A B : Prop} (a b : Nat) (f : a < b → A) (g : b ≤ a → B) (hx : x = nI a := by rfl) (hy : y = nI b := by rfl) (ha : a < 2 ^ 31 := by omega) (hb : b < 2 ^ 31 := by omega) : (x < y → A) ∧ (¬ x < y → B) := by
  subst hx hy
  rw [nI_ltI ha hb]
  exact ⟨f, fun z => g (by omega)⟩
theorem pk_eq {x y : Int32} {A B : Prop} (a b : Nat) (f : a = b → A) (g : a ≠ b → B) (hx : x = nI a := by rfl) (hy : y = nI b := by rfl) (ha : a < 2 ^ 31 := by omega) (hb : b < 2 ^ 31 := by omega) : (x = y → A) ∧ (¬ x = y → B) := by
  subst hx hy
  rw [nI_eq ha hb]
  exact ⟨f, g⟩
theorem pk_in {x : Int32} (n N : Nat) (h : n < N) (hx : x = nI n := by rfl) (hN : N < 2 ^ 31 := by omega) : vp_in x N := by
  subst hx
  exact vp_in_nI h hN
theorem pk_cl {x : Int32} (n : Nat) (hx : x = nI n := by rfl) (h : n < 2 ^ 31 := by omega) : x.toNatClampNeg = n := by
  subst hx
  exact nI_clamp h
theorem pk_tn {n : Nat} (h : n < 2 ^ 32) : (nI n).toBitVec.toNat = n := Nat.mod_eq_of_lt h
theorem pk_and (x : Int32) {m : Int32} (k : Nat) (hm : m.toBitVec.toNat = 2 ^ k - 1) : x &&& m = nI (x.toBitVec.toNat % 2 ^ k) := by
  apply Int32.toBitVec_inj.mp
  apply BitVec.eq_of_toNat_eq
  rw [Int32.toBitVec_and, BitVec.toNat_and, hm, Nat.and_two_pow_sub_one_eq_mod]
  show _ = (BitVec.ofNat 32 _).toNat
  rw [BitVec.toNat_ofNat]
  exact (Nat.mod_eq_of_lt (Nat.lt_of_le_of_lt (Nat.mod_le _ _) x.toBitVec.isLt)).symm
theorem pk_andN {n : Nat} (h : n < 2 ^ 32) {m : Int32} (k : Nat) (hm : m.toBitVec.toNat = 2 ^ k - 1) : nI n &&& m = nI (n % 2 ^ k) := by
  rw [pk_and _ k hm, pk_tn h]
theorem pk_andE (x : Int32) {m : Int32} (k : Nat) (hm : m.toBitVec.toNat = 2 ^ k - 1) : ∃ j : Nat, j < 2 ^ k ∧ x &&& m = nI j := ⟨_, Nat.mod_lt _ (Nat.two_pow_pos k), pk_and x k hm⟩
theorem pk_andIn (x : Int32) {m : Int32} (k : Nat) (hm : m.toBitVec.toNat = 2 ^ k - 1) (hk : k ≤ 30) : vp_in (x &&& m) (2 ^ k) := by
  obtain ⟨j, hj, e⟩ := pk_andE x k hm
  rw [e]
  exact vp_in_nI hj (Nat.lt_of_le_of_lt (Nat.pow_le_pow_right (by decide) hk) (by decide))
theorem pk_shl (a s : Int32) (k : Nat) (hs : (s.toBitVec.smod 32).toNat = k) : (a <<< s).toBitVec.toNat = a.toBitVec.toNat * 2 ^ k % 2 ^ 32 := by
  show (a.toBitVec <<< (s.toBitVec.smod 32).toNat).toNat = _
  rw [hs, BitVec.toNat_shiftLeft, Nat.shiftLeft_eq]
theorem pk_shlN {n : Nat} (s : Int32) (k : Nat) (hs : (s.toBitVec.smod 32).toNat = k) (h : n * 2 ^ k < 2 ^ 32) : nI n <<< s = nI (n * 2 ^ k) := by
  apply Int32.toBitVec_inj.mp
  apply BitVec.eq_of_toNat_eq
  have hn : n < 2 ^ 32 := Nat.lt_of_le_of_lt (Nat.le_mul_of_pos_right n (Nat.two_pow_pos k)) h
  rw [pk_shl _ _ k hs, pk_tn hn, pk_tn h, Nat.mod_eq_of_lt h]
theorem pk_shr (a s : Int32) (k : Nat) (hs : (s.toBitVec.smod 32).toNat = k) : (a >>> s).toInt = a.toInt >>> k := by
  show (a.toBitVec.sshiftRight (s.toBitVec.smod 32).toNat).toInt = _
  rw [hs, BitVec.toInt_sshiftRight]
  rfl
theorem pk_shrN {n : Nat} (h : n < 2 ^ 31) (s : Int32) (k : Nat) (hs : (s.toBitVec.smod 32).toNat = k) : nI n >>> s = nI (n / 2 ^ k) := by
  apply Int32.toInt_inj.mp
  have h2 : n / 2 ^ k ≤ n := Nat.div_le_self _ _
  rw [pk_shr _ _ k hs, nI_toInt h, nI_toInt (by omega), Int.shiftRight_eq_div_pow]
  rfl
theorem pk_least (P : Nat → Prop) (h : ∃ k, P k) : ∃ k, P k ∧ ∀ j, j < k → ¬ P j := by
  obtain ⟨k, hk⟩ := h
  induction k using Nat.strongRecOn with
  | ind k ih =>
    by_cases e : ∃ j, j < k ∧ P j
    · obtain ⟨j, hj, pj⟩ := e
      exact ih j hj pj
    · exact ⟨k, hk, fun j hj pj => e ⟨j, hj, pj⟩⟩
theorem ek_if {c d A B : Prop} (e : c ↔ d) (f : d → A) (g : ¬ d → B) : (c → A) ∧ (¬ c → B) :=
  ⟨fun z => f (e.mp z), fun z => g (fun y => z (e.mpr y))⟩
theorem ek_v {α : Sort _} {P : α → Prop} {a b : α} (e : a = b) (h : P b) : P a := e ▸ h
end
section
/-- what an ELSE does to the stack -/
def cm_el (k : Nat) : List (Nat × Nat) → List (Nat × Nat)
  | [] => []
  | e :: t => (e.1, k) :: t
/-- the blocks around statement k, innermost first: (opener, patch) -/
def cm_st (K : Nat → Int32) : Nat → List (Nat × Nat)
  | 0 => []
  | k + 1 => if K k = 11 ∨ K k = 13 then (k, k) :: cm_st K k
    else if K k = 14 then (cm_st K k).tail
    else if K k = 12 then cm_el k (cm_st K k)
    else cm_st K k
theorem cm_st_push {K : Nat → Int32} {k : Nat} (h : K k = 11 ∨ K k = 13) : cm_st K (k + 1) = (k, k) :: cm_st K k := by
  show (if K k = 11 ∨ K k = 13 then _ else _) = _
  rw [if_pos h]
theorem cm_st_end {K : Nat → Int32} {k : Nat} (h : K k = 14) : cm_st K (k + 1) = (cm_st K k).tail := by
  show (if K k = 11 ∨ K k = 13 then _ else if K k = 14 then _ else _) = _
  rw [if_neg (by rw [h]; decide), if_pos h]
theorem cm_st_else {K : Nat → Int32} {k : Nat} (h : K k = 12) : cm_st K (k + 1) = cm_el k (cm_st K k) := by
  show (if K k = 11 ∨ K k = 13 then _ else if K k = 14 then _ else if K k = 12 then _ else _) = _
  rw [if_neg (by rw [h]; decide), if_neg (by rw [h]; decide), if_pos h]
theorem cm_st_flat {K : Nat → Int32} {k : Nat} (h1 : K k ≠ 11) (h2 : K k ≠ 12) (h3 : K k ≠ 13) (h4 : K k ≠ 14) : cm_st K (k + 1) = cm_st K k := by
  show (if K k = 11 ∨ K k = 13 then _ else if K k = 14 then _ else if K k = 12 then _ else _) = _
  rw [if_neg (fun h => h.elim h1 h3), if_neg h4, if_neg h2]
theorem cm_kc (x : Int32) : (x = 11 ∨ x = 13) ∨ x = 14 ∨ x = 12 ∨ (x ≠ 11 ∧ x ≠ 12 ∧ x ≠ 13 ∧ x ≠ 14) := by
  by_cases h1 : x = 11
  · exact Or.inl (Or.inl h1)
  · by_cases h2 : x = 13
    · exact Or.inl (Or.inr h2)
    · by_cases h3 : x = 14
      · exact Or.inr (Or.inl h3)
      · by_cases h4 : x = 12
        · exact Or.inr (Or.inr (Or.inl h4))
        · exact Or.inr (Or.inr (Or.inr ⟨h1, h4, h2, h3⟩))
/-- the order in a stack -/
def cm_Ch : Nat → List (Nat × Nat) → Prop
  | _, [] => True
  | m, e :: t => e.1 ≤ e.2 ∧ e.2 < m ∧ cm_Ch e.1 t
theorem cm_Ch_mono : ∀ {S : List (Nat × Nat)} {m m' : Nat}, m ≤ m' → cm_Ch m S → cm_Ch m' S
  | [], _, _, _, _ => trivial
  | _ :: _, _, _, h, ⟨a, b, d⟩ => ⟨a, Nat.lt_of_lt_of_le b h, d⟩
theorem cm_Ch_st (K : Nat → Int32) : ∀ k, cm_Ch k (cm_st K k)
  | 0 => trivial
  | k + 1 => by
    have ih := cm_Ch_st K k
    rcases cm_kc (K k) with h | h | h | ⟨h1, h2, h3, h4⟩
    · rw [cm_st_push h]
      exact ⟨Nat.le_refl _, Nat.lt_succ_self _, ih⟩
    · rw [cm_st_end h]
      generalize cm_st K k = S at ih
      cases S with
      | nil => trivial
      | cons e t => exact cm_Ch_mono (by have := ih.1; have := ih.2.1; omega) ih.2.2
    · rw [cm_st_else h]
      generalize cm_st K k = S at ih
      cases S with
      | nil => trivial
      | cons e t => exact ⟨by show e.1 ≤ k; have := ih.1; have := ih.2.1; omega, Nat.lt_succ_self _, ih.2.2⟩
    · rw [cm_st_flat h1 h2 h3 h4]
      exact cm_Ch_mono (Nat.le_succ _) ih
theorem cm_Ch_lt : ∀ {S : List (Nat × Nat)} {m : Nat} {e : Nat × Nat}, cm_Ch m S → e ∈ S → e.1 ≤ e.2 ∧ e.2 < m
  | [], _, _, _, h => by simp at h
  | d :: t, m, e, ⟨a, b, hc⟩, h => by
    rcases List.mem_cons.mp h with rfl | h
    · exact ⟨a, b⟩
    · have := cm_Ch_lt hc h
      exact ⟨this.1, by omega⟩
theorem cm_Ch_len : ∀ {S : List (Nat × Nat)} {m : Nat}, cm_Ch m S → S.length ≤ m
  | [], _, _ => Nat.zero_le _
  | d :: t, m, ⟨a, b, hc⟩ => by
    have := cm_Ch_len hc
    show t.length + 1 ≤ m
    omega
theorem cm_Ch_uq {S : List (Nat × Nat)} : ∀ {m : Nat} {e f : Nat × Nat}, cm_Ch m S → e ∈ S → f ∈ S → e.1 = f.1 → e = f := by
  induction S with
  | nil => intro m e f _ h; simp at h
  | cons d t ih =>
    intro m e f hc he hf h
    rcases List.mem_cons.mp he with rfl | he'
    · rcases List.mem_cons.mp hf with rfl | hf'
      · rfl
      · have := cm_Ch_lt hc.2.2 hf'
        omega
    · rcases List.mem_cons.mp hf with rfl | hf'
      · have := cm_Ch_lt hc.2.2 he'
        omega
      · exact ih hc.2.2 he' hf' h
/-- what a step may add to the stack -/
theorem cm_mem_s {K : Nat → Int32} {k : Nat} {e : Nat × Nat} (h : e ∈ cm_st K (k + 1)) : e ∈ cm_st K k ∨ (e = (k, k) ∧ (K k = 11 ∨ K k = 13)) ∨ (K k = 12 ∧ ∃ q t, cm_st K k = (e.1, q) :: t ∧ e = (e.1, k)) := by
  rcases cm_kc (K k) with hk | hk | hk | ⟨h1, h2, h3, h4⟩
  · rw [cm_st_push hk] at h
    rcases List.mem_cons.mp h with rfl | h
    · exact Or.inr (Or.inl ⟨rfl, hk⟩)
    · exact Or.inl h
  · rw [cm_st_end hk] at h
    exact Or.inl (List.mem_of_mem_tail h)
  · rw [cm_st_else hk] at h
    generalize hS : cm_st K k = S at h ⊢
    cases S with
    | nil => exact absurd h (by simp [cm_el])
    | cons d t =>
      rcases List.mem_cons.mp (show e ∈ (d.1, k) :: t from h) with rfl | h
      · exact Or.inr (Or.inr ⟨hk, d.2, t, rfl, rfl⟩)
      · exact Or.inl (List.mem_cons_of_mem _ h)
  · rw [cm_st_flat h1 h2 h3 h4] at h
    exact Or.inl h
/-- j is an opener whose block holds k -/
def cm_In (K : Nat → Int32) (j k : Nat) : Prop := ∃ e, e ∈ cm_st K k ∧ e.1 = j
theorem cm_In_lt {K : Nat → Int32} {j k : Nat} (h : cm_In K j k) : j < k := by
  obtain ⟨e, he, rfl⟩ := h
  have := cm_Ch_lt (cm_Ch_st K k) he
  omega
theorem cm_In_back {K : Nat → Int32} {j k : Nat} (h : cm_In K j (k + 1)) (hj : j < k) : cm_In K j k := by
  obtain ⟨e, he, rfl⟩ := h
  rcases cm_mem_s he with h | ⟨h, -⟩ | ⟨-, q, t, h, -⟩
  · exact ⟨e, h, rfl⟩
  · rw [h] at hj; exact absurd hj (Nat.lt_irrefl _)
  · exact ⟨(e.1, q), by rw [h]; exact List.mem_cons_self .., rfl⟩
theorem cm_In_le {K : Nat → Int32} {j m : Nat} (hj : j < m) : ∀ d, cm_In K j (m + d) → cm_In K j m
  | 0, h => h
  | d + 1, h => cm_In_le hj d (cm_In_back h (by omega))
theorem cm_In_mono {K : Nat → Int32} {j m k : Nat} (hj : j < m) (hm : m ≤ k) (h : cm_In K j k) : cm_In K j m := by
  obtain ⟨d, rfl⟩ : ∃ d, k = m + d := ⟨k - m, by omega⟩
  exact cm_In_le hj d h
theorem cm_op {K : Nat → Int32} : ∀ {k : Nat} {e : Nat × Nat}, e ∈ cm_st K k → K e.1 = 11 ∨ K e.1 = 13
  | 0, e, h => by simp [cm_st] at h
  | k + 1, e, h => by
    rcases cm_mem_s h with h | ⟨h, hk⟩ | ⟨-, q, t, h, -⟩
    · exact cm_op h
    · rw [h]; exact hk
    · exact cm_op (e := (e.1, q)) (by rw [h]; exact List.mem_cons_self ..)
/-- within the block of j the stack ends with j's own -/
theorem cm_blk {K : Nat → Int32} {j : Nat} (hj : K j = 11 ∨ K j = 13) : ∀ d, cm_In K j (j + 1 + d) → ∃ pre q, cm_st K (j + 1 + d) = pre ++ (j, q) :: cm_st K j ∧ j ≤ q
  | 0, _ => ⟨[], j, cm_st_push hj, Nat.le_refl _⟩
  | d + 1, h => by
    obtain ⟨pre, q, e, hq⟩ := cm_blk hj d (cm_In_back h (by omega))
    show ∃ pre q, cm_st K (j + 1 + d + 1) = pre ++ (j, q) :: cm_st K j ∧ j ≤ q
    have h' : cm_In K j (j + 1 + d + 1) := h
    rcases cm_kc (K (j + 1 + d)) with hk | hk | hk | ⟨h1, h2, h3, h4⟩
    · exact ⟨(j + 1 + d, j + 1 + d) :: pre, q, by rw [cm_st_push hk, e]; rfl, hq⟩
    · cases pre with
      | nil =>
        obtain ⟨x, hx, rfl⟩ := h'
        rw [cm_st_end hk, e] at hx
        have := cm_Ch_lt (cm_Ch_st K x.1) hx
        omega
      | cons a pre => exact ⟨pre, q, by rw [cm_st_end hk, e]; rfl, hq⟩
    · cases pre with
      | nil => exact ⟨[], j + 1 + d, by rw [cm_st_else hk, e]; rfl, by omega⟩
      | cons a pre => exact ⟨(a.1, j + 1 + d) :: pre, q, by rw [cm_st_else hk, e]; rfl, hq⟩
    · exact ⟨pre, q, by rw [cm_st_flat h1 h2 h3 h4, e], hq⟩
theorem cm_In_op {K : Nat → Int32} {j k : Nat} (h : cm_In K j k) : K j = 11 ∨ K j = 13 := by
  obtain ⟨e, he, rfl⟩ := h
  exact cm_op he
theorem cm_block {K : Nat → Int32} {j m : Nat} (h : cm_In K j m) : ∃ pre q, cm_st K m = pre ++ (j, q) :: cm_st K j ∧ j ≤ q := by
  obtain ⟨d, rfl⟩ : ∃ d, m = j + 1 + d := ⟨m - (j + 1), by have := cm_In_lt h; omega⟩
  exact cm_blk (cm_In_op h) d h
/-- j is the innermost opener around i -/
def cm_Hd (K : Nat → Int32) (i j : Nat) : Prop := ∃ q t, cm_st K i = (j, q) :: t
theorem cm_Hd_In {K : Nat → Int32} {i j : Nat} (h : cm_Hd K i j) : cm_In K j i := by
  obtain ⟨q, t, e⟩ := h
  exact ⟨(j, q), by rw [e]; exact List.mem_cons_self .., rfl⟩
theorem cm_hd {K : Nat → Int32} {i j q : Nat} {t : List (Nat × Nat)} (h : cm_st K i = (j, q) :: t) : t = cm_st K j ∧ j ≤ q ∧ q < i ∧ (K j = 11 ∨ K j = 13) := by
  have hin : cm_In K j i := cm_Hd_In ⟨q, t, h⟩
  have hc := cm_Ch_st K i
  rw [h] at hc
  obtain ⟨pre, q', e, hq⟩ := cm_block hin
  rw [h] at e
  cases pre with
  | nil =>
    injection e with e1 e2
    exact ⟨e2, hc.1, hc.2.1, cm_In_op hin⟩
  | cons a pre =>
    injection e with e1 e2
    have : (j, q') ∈ t := by rw [e2]; simp
    have := cm_Ch_lt hc.2.2 this
    exact absurd this (by show ¬ (j ≤ q' ∧ q' < j); omega)
theorem cm_Hd_uq {K : Nat → Int32} {i j j' : Nat} (h : cm_Hd K i j) (h' : cm_Hd K i j') : j = j' := by
  obtain ⟨q, t, e⟩ := h
  obtain ⟨q', t', e'⟩ := h'
  rw [e] at e'
  injection e' with e1 _
  injection e1
theorem cm_head_max {K : Nat → Int32} {i j q j' : Nat} {t : List (Nat × Nat)} (h : cm_st K i = (j, q) :: t) (h' : cm_In K j' i) : j' ≤ j := by
  obtain ⟨e, he, rfl⟩ := h'
  have hc := cm_Ch_st K i
  rw [h] at hc he
  rcases List.mem_cons.mp he with rfl | he
  · exact Nat.le_refl _
  · have := cm_Ch_lt hc.2.2 he
    have hh : e.2 < j := this.2
    omega
/-- a patch other than its opener is an ELSE of it -/
theorem cm_q1 {K : Nat → Int32} : ∀ {k : Nat} {e : Nat × Nat}, e ∈ cm_st K k → e.2 ≠ e.1 → K e.2 = 12 ∧ cm_Hd K e.2 e.1
  | 0, e, h, _ => by simp [cm_st] at h
  | k + 1, e, h, hn => by
    rcases cm_mem_s h with h | ⟨h, hk⟩ | ⟨hk, q, t, h, h2⟩
    · exact cm_q1 h hn
    · rw [h] at hn; exact absurd rfl hn
    · have e2 : e.2 = k := by rw [h2]
      rw [e2]
      exact ⟨hk, q, t, h⟩
/-- an ELSE of j moves j's patch for good -/
theorem cm_q2 {K : Nat → Int32} {i j : Nat} (hk : K i = 12) (hh : cm_Hd K i j) : ∀ {d q : Nat}, (j, q) ∈ cm_st K (i + 1 + d) → i ≤ q
  | 0, q, h => by
    obtain ⟨q', t, e⟩ := hh
    have h : (j, q) ∈ cm_st K (i + 1) := h
    have e' : cm_st K (i + 1) = (j, i) :: t := by rw [cm_st_else hk, e]; rfl
    have := cm_Ch_uq (cm_Ch_st K (i + 1)) h (show (j, i) ∈ _ by rw [e']; exact List.mem_cons_self ..) rfl
    injection this with _ h2
    omega
  | d + 1, q, h => by
    have hlt := cm_In_lt (cm_Hd_In hh)
    rcases cm_mem_s (show (j, q) ∈ cm_st K (i + 1 + d + 1) from h) with h | ⟨h, _⟩ | ⟨_, q', t, h, h2⟩
    · exact cm_q2 hk hh h
    · injection h; omega
    · injection h2; omega
theorem cm_q2' {K : Nat → Int32} {i j k q : Nat} (hk : K i = 12) (hh : cm_Hd K i j) (hi : i < k) (h : (j, q) ∈ cm_st K k) : i ≤ q := by
  obtain ⟨d, rfl⟩ : ∃ d, k = i + 1 + d := ⟨k - (i + 1), by omega⟩
  exact cm_q2 hk hh h
/-- a block that is left has an END -/
theorem cm_end_ex {K : Nat → Int32} {j : Nat} : ∀ {d : Nat}, cm_In K j (j + 1) → ¬ cm_In K j (j + 1 + d) → ∃ e, j < e ∧ e < j + 1 + d ∧ K e = 14 ∧ cm_Hd K e j
  | 0, h, hn => absurd h hn
  | d + 1, h, hn => by
    by_cases hd : cm_In K j (j + 1 + d)
    · refine ⟨j + 1 + d, by omega, by omega, ?_⟩
      obtain ⟨pre, q, e, hq⟩ := cm_block hd
      have hn' : ¬ cm_In K j (j + 1 + d + 1) := hn
      rcases cm_kc (K (j + 1 + d)) with hk | hk | hk | ⟨h1, h2, h3, h4⟩
      · exact absurd ⟨(j, q), by rw [cm_st_push hk, e]; simp, rfl⟩ hn'
      · refine ⟨hk, ?_⟩
        cases pre with
        | nil => exact ⟨q, _, e⟩
        | cons a pre => exact absurd ⟨(j, q), by rw [cm_st_end hk, e]; simp, rfl⟩ hn'
      · cases pre with
        | nil => exact absurd ⟨(j, j + 1 + d), by rw [cm_st_else hk, e]; simp [cm_el], rfl⟩ hn'
        | cons a pre => exact absurd ⟨(j, q), by rw [cm_st_else hk, e]; simp [cm_el], rfl⟩ hn'
      · exact absurd ⟨(j, q), by rw [cm_st_flat h1 h2 h3 h4, e]; simp, rfl⟩ hn'
    · obtain ⟨e, h1, h2, h3⟩ := cm_end_ex h hd
      exact ⟨e, h1, by omega, h3⟩
theorem cm_In_self {K : Nat → Int32} {j : Nat} (hj : K j = 11 ∨ K j = 13) : cm_In K j (j + 1) := ⟨(j, j), by rw [cm_st_push hj]; exact List.mem_cons_self .., rfl⟩
theorem cm_end_ex' {K : Nat → Int32} {j c : Nat} (hj : K j = 11 ∨ K j = 13) (hc : cm_st K c = []) (hl : j < c) : ∃ e, j < e ∧ e < c ∧ K e = 14 ∧ cm_Hd K e j := by
  obtain ⟨d, rfl⟩ : ∃ d, c = j + 1 + d := ⟨c - (j + 1), by omega⟩
  exact cm_end_ex (cm_In_self hj) (fun ⟨e, he, _⟩ => by rw [hc] at he; simp at he)
/-- counts over a stack -/
def cm_cp (p : Nat → Bool) : List (Nat × Nat) → Nat
  | [] => 0
  | e :: t => cm_cp p t + (if p e.1 = true then 1 else 0)
theorem cm_cp_le (p : Nat → Bool) : ∀ S, cm_cp p S ≤ S.length
  | [] => Nat.le_refl _
  | e :: t => by
    have := cm_cp_le p t
    show cm_cp p t + (if p e.1 = true then 1 else 0) ≤ t.length + 1
    split <;> omega
theorem cm_cp_eq {p p' : Nat → Bool} : ∀ {S : List (Nat × Nat)}, (∀ e, e ∈ S → p e.1 = p' e.1) → cm_cp p S = cm_cp p' S
  | [], _ => rfl
  | e :: t, h => by
    show cm_cp p t + (if p e.1 = true then 1 else 0) = cm_cp p' t + (if p' e.1 = true then 1 else 0)
    rw [cm_cp_eq (fun x hx => h x (List.mem_cons_of_mem _ hx)), h e (List.mem_cons_self ..)]
theorem cm_cp_0 {p : Nat → Bool} : ∀ {S : List (Nat × Nat)}, (∀ e, e ∈ S → p e.1 = false) → cm_cp p S = 0
  | [], _ => rfl
  | e :: t, h => by
    show cm_cp p t + (if p e.1 = true then 1 else 0) = 0
    rw [cm_cp_0 (fun x hx => h x (List.mem_cons_of_mem _ hx)), h e (List.mem_cons_self ..)]
    rfl
theorem cm_cp_pos {p : Nat → Bool} : ∀ {S : List (Nat × Nat)} {e : Nat × Nat}, e ∈ S → p e.1 = true → 0 < cm_cp p S
  | d :: t, e, h, hp => by
    show 0 < cm_cp p t + (if p d.1 = true then 1 else 0)
    rcases List.mem_cons.mp h with rfl | h
    · rw [if_pos hp]; omega
    · have := cm_cp_pos h hp; omega
/-- the count of those below i, as i goes on -/
theorem cm_cp_s1 {p : Nat → Bool} {i : Nat} (hp : p i = true) : ∀ {S : List (Nat × Nat)} {m : Nat}, cm_Ch m S → (∃ e, e ∈ S ∧ e.1 = i) → cm_cp (fun j => p j && decide (j < i + 1)) S = cm_cp (fun j => p j && decide (j < i)) S + 1
  | [], _, _, ⟨e, he, _⟩ => by simp at he
  | d :: t, m, hc, ⟨e, he, hi⟩ => by
    show cm_cp _ t + (if (p d.1 && decide (d.1 < i + 1)) = true then 1 else 0) = cm_cp _ t + (if (p d.1 && decide (d.1 < i)) = true then 1 else 0) + 1
    by_cases hd : d.1 = i
    · have : cm_cp (fun j => p j && decide (j < i + 1)) t = cm_cp (fun j => p j && decide (j < i)) t := by
        apply cm_cp_eq
        intro x hx
        have := cm_Ch_lt hc.2.2 hx
        have a : x.1 < i + 1 := by omega
        have b : x.1 < i := by omega
        simp [a, b]
      rw [this, hd]
      simp [hp]
    · have he' : e ∈ t := by
        rcases List.mem_cons.mp he with rfl | h
        · exact absurd hi hd
        · exact h
      rw [cm_cp_s1 hp hc.2.2 ⟨e, he', hi⟩]
      have : decide (d.1 < i + 1) = decide (d.1 < i) := by
        apply decide_eq_decide.mpr; omega
      rw [this]; omega
theorem cm_cp_s0 {p : Nat → Bool} {i : Nat} {S : List (Nat × Nat)} (h : ∀ e, e ∈ S → e.1 = i → p i = false) : cm_cp (fun j => p j && decide (j < i + 1)) S = cm_cp (fun j => p j && decide (j < i)) S := by
  apply cm_cp_eq
  intro e he
  by_cases hi : e.1 = i
  · show (p e.1 && _) = (p e.1 && _)
    rw [hi, h e he hi]; rfl
  · have : decide (e.1 < i + 1) = decide (e.1 < i) := by
      apply decide_eq_decide.mpr; omega
    show (p e.1 && decide (e.1 < i + 1)) = (p e.1 && decide (e.1 < i))
    rw [this]
def cm_isK (K : Nat → Int32) (x : Int32) : Nat → Bool := fun j => decide (K j = x)
theorem cm_cp_sum {K : Nat → Int32} : ∀ {S : List (Nat × Nat)}, (∀ e, e ∈ S → K e.1 = 11 ∨ K e.1 = 13) → cm_cp (cm_isK K 11) S + cm_cp (cm_isK K 13) S = S.length
  | [], _ => rfl
  | e :: t, h => by
    have ih := cm_cp_sum (K := K) (S := t) (fun x hx => h x (List.mem_cons_of_mem _ hx))
    show cm_cp _ t + (if cm_isK K 11 e.1 = true then 1 else 0) + (cm_cp _ t + (if cm_isK K 13 e.1 = true then 1 else 0)) = t.length + 1
    rcases h e (List.mem_cons_self ..) with hk | hk
    · rw [if_pos (by simp [cm_isK, hk]), if_neg (by simp [cm_isK, hk])]; omega
    · rw [if_neg (by simp [cm_isK, hk]), if_pos (by simp [cm_isK, hk])]; omega
end
section
theorem cm_m1ne {j : Nat} (h : j < 2 ^ 31) : ¬ (-1 : Int32) = nI j := by
  intro e
  have := nI_pos' h
  rw [← e] at this
  exact absurd this (by decide)
/-- a secret IF -/
def cm_sec (K Xs : Nat → Int32) (P : Int32) : Nat → Bool := fun j => decide (K j = 11) && decide (¬ Xs j < P)
theorem cm_sec_t {K Xs : Nat → Int32} {P : Int32} {j : Nat} (h : K j = 11) (h2 : ¬ Xs j < P) : cm_sec K Xs P j = true := by simp [cm_sec, h, h2]
theorem cm_sec_f1 {K Xs : Nat → Int32} {P : Int32} {j : Nat} (h : K j ≠ 11) : cm_sec K Xs P j = false := by simp [cm_sec, h]
theorem cm_sec_f2 {K Xs : Nat → Int32} {P : Int32} {j : Nat} (h : Xs j < P) : cm_sec K Xs P j = false := by simp [cm_sec, h]
/-- every secret IF of the stack has chosen the arm -/
def cm_Lv (K Xs : Nat → Int32) (P : Int32) (ch : Nat → Int32) (S : List (Nat × Nat)) : Prop :=
  ∀ e, e ∈ S → cm_sec K Xs P e.1 = true → ch e.1 = (if e.2 = e.1 then 1 else 0)
section
variable {o1 o2 o3 o4 o5 o6 sta ob orr os cl dg ff : Int32} {pv sv pc sc c ln : Nat} {sz inp mm K Xs Ys Zs bk bp bs be co so rg tg mk ct ev ch lf tr : Nat → Int32}
theorem cy_oa {post : Int32 → Prop} {j k : Nat} (hk : k ≤ 24) (h1 : cm_In K j k → post 1) (h0 : ¬ cm_In K j k → post 0) : ∀ (d i q : Nat) (pre : List (Nat × Nat)), i + d = k → cm_st K i = pre ++ (j, q) :: cm_st K j → j < i → wY_openAt_31 post (nI k) (nI pv) (nI sv) (nI pc) (nI sc) (nI c) sta ff (nI ln) K Xs Ys Zs inp mm ch lf tr (d + 1) (nI (pre.length + 1)) (nI i)
  | 0, i, q, pre, hi, e, hj => by
    have hik : i = k := by omega
    subst hik
    exact br_t (nI_le (Nat.le_refl _) (by omega)) (h1 ⟨(j, q), by rw [e]; simp, rfl⟩)
  | d + 1, i, q, pre, hi, e, hj => by
    have hin : vp_in (nI i) 24 := vp_in_nI (by omega) (by decide)
    have hlen : pre.length + 1 ≤ i := by
      have := cm_Ch_len (cm_Ch_st K i)
      rw [e] at this
      simp at this
      omega
    have hc : (nI i).toNatClampNeg = i := nI_clamp (by omega)
    refine br_f (nI_ge (by omega) (by omega)) (And.intro hin ?_)
    rcases cm_kc (K i) with (h | h) | h | h | ⟨n1, n2, n3, n4⟩
    · refine br_t (by rw [hc]; exact h) (nm_r (nI_1 _) (And.intro hin (br_f (by rw [hc, h]; decide) (br_f (nI_ne0 (by omega) (by omega)) (nm_r (nI_1 i) ?_)))))
      exact cy_oa hk h1 h0 d (i + 1) q ((i, i) :: pre) (by omega) (by rw [cm_st_push (Or.inl h), e]; rfl) (by omega)
    · refine br_f (by rw [hc, h]; decide) (And.intro hin (br_t (by rw [hc]; exact h) (nm_r (nI_1 _) (And.intro hin (br_f (by rw [hc, h]; decide) (br_f (nI_ne0 (by omega) (by omega)) (nm_r (nI_1 i) ?_)))))))
      exact cy_oa hk h1 h0 d (i + 1) q ((i, i) :: pre) (by omega) (by rw [cm_st_push (Or.inr h), e]; rfl) (by omega)
    · refine br_f (by rw [hc, h]; decide) (And.intro hin (br_f (by rw [hc, h]; decide) (And.intro hin (br_t (by rw [hc]; exact h) (nm_r (pk_m1 _) ?_)))))
      cases pre with
      | nil =>
        refine br_t (by rfl) (h0 fun hin => ?_)
        obtain ⟨x, hx, hxj⟩ := cm_In_mono (m := i + 1) (by omega) (by omega) hin
        rw [cm_st_end h, e] at hx
        have := cm_Ch_lt (cm_Ch_st K j) hx
        omega
      | cons a pre =>
        refine br_f (nI_ne0 (by simp) (by simp at hlen ⊢; omega)) (nm_r (nI_1 i) ?_)
        exact cy_oa hk h1 h0 d (i + 1) q pre (by omega) (by rw [cm_st_end h, e]; rfl) (by omega)
    · refine br_f (by rw [hc, h]; decide) (And.intro hin (br_f (by rw [hc, h]; decide) (And.intro hin (br_f (by rw [hc, h]; decide) (br_f (nI_ne0 (by omega) (by omega)) (nm_r (nI_1 i) ?_))))))
      cases pre with
      | nil => exact cy_oa hk h1 h0 d (i + 1) i [] (by omega) (by rw [cm_st_else h, e]; rfl) (by omega)
      | cons a pre => exact cy_oa hk h1 h0 d (i + 1) q ((a.1, i) :: pre) (by omega) (by rw [cm_st_else h, e]; rfl) (by omega)
    · refine br_f (by rw [hc]; exact n1) (And.intro hin (br_f (by rw [hc]; exact n3) (And.intro hin (br_f (by rw [hc]; exact n4) (br_f (nI_ne0 (by omega) (by omega)) (nm_r (nI_1 i) ?_))))))
      exact cy_oa hk h1 h0 d (i + 1) q pre (by omega) (by rw [cm_st_flat n1 n2 n3 n4, e]) (by omega)
theorem cy_openAt {post : Int32 → Prop} {j k : Nat} (hj : j < k) (hk : k ≤ 24) (h1 : cm_In K j k → post 1) (h0 : ¬ cm_In K j k → post 0) : wpY_openAt post (nI pv, nI sv, nI pc, nI sc, nI c, sta, ff, nI ln, K, Xs, Ys, Zs, inp, mm, ch, lf, tr) (nI j) (nI k) := by
  have hin : vp_in (nI j) 24 := vp_in_nI (by omega) (by decide)
  have hc : (nI j).toNatClampNeg = j := nI_clamp (by omega)
  refine And.intro hin ?_
  by_cases h : K j = 11
  · exact br_t (by rw [hc]; exact h) (nm_r (nI_1 j) ⟨k - (j + 1) + 1, cy_oa hk h1 h0 (k - (j + 1)) (j + 1) j [] (by omega) (cm_st_push (Or.inl h)) (by omega)⟩)
  · refine br_f (by rw [hc]; exact h) (And.intro hin ?_)
    by_cases h' : K j = 13
    · exact br_t (by rw [hc]; exact h') (nm_r (nI_1 j) ⟨k - (j + 1) + 1, cy_oa hk h1 h0 (k - (j + 1)) (j + 1) j [] (by omega) (cm_st_push (Or.inr h')) (by omega)⟩)
    · exact br_f (by rw [hc]; exact h') (h0 fun hin => (cm_In_op hin).elim h h')
theorem cy_inn_l {post : Int32 → Prop} {k : Nat} (hk : k ≤ 24) (h0 : cm_st K k = [] → post (-1)) (h1 : ∀ j q t, cm_st K k = (j, q) :: t → post (nI j)) : ∀ i, i ≤ k → (∀ e, e ∈ cm_st K k → e.1 < i) → wY_innermost_4 post (nI k) (nI pv) (nI sv) (nI pc) (nI sc) (nI c) sta ff (nI ln) K Xs Ys Zs inp mm ch lf tr (i + 1) (nI i - 1)
  | 0, hi, ha => by
    refine br_t (by decide) (h0 ?_)
    generalize cm_st K k = S at ha
    cases S with
    | nil => rfl
    | cons e t => exact absurd (ha e (List.mem_cons_self ..)) (Nat.not_lt_zero _)
  | i + 1, hi, ha => by
    rw [nI_pred]
    refine br_f (nI_pos (by omega)) (cy_openAt (by omega) hk ?_ ?_)
    · intro hin
      refine br_f (by decide) ?_
      obtain ⟨e, he, hei⟩ := id hin
      match hS : cm_st K k with
      | [] => rw [hS] at he; simp at he
      | (j, q) :: t =>
        have a := cm_head_max hS hin
        have b := ha (j, q) (by rw [hS]; exact List.mem_cons_self ..)
        have : j = i := by
          have b' : j < i + 1 := b
          omega
        subst this
        exact h1 j q t hS
    · intro hn
      refine br_t rfl (nm_r (e' := nI i - 1) (Int32.sub_eq_add_neg ..).symm (cy_inn_l hk h0 h1 i (by omega) ?_))
      intro e he
      have a := ha e he
      have b : e.1 ≠ i := fun z => hn ⟨e, he, z⟩
      omega
theorem cy_innermost {post : Int32 → Prop} {k : Nat} (hk : k ≤ 24) (h0 : cm_st K k = [] → post (-1)) (h1 : ∀ j q t, cm_st K k = (j, q) :: t → post (nI j)) : wpY_innermost post (nI pv, nI sv, nI pc, nI sc, nI c, sta, ff, nI ln, K, Xs, Ys, Zs, inp, mm, ch, lf, tr) (nI k) :=
  nm_e ⟨k + 1, cy_inn_l hk h0 h1 k (Nat.le_refl _) fun e he => by have := cm_Ch_lt (cm_Ch_st K k) he; omega⟩
theorem cy_find_l {post : Int32 → Prop} {kd : Int32} {j k : Nat} (hk : k ≤ 24) (h1 : ∀ i, j < i → i < k → K i = kd → cm_Hd K i j → (∀ i', j < i' → i' < i → ¬ (K i' = kd ∧ cm_Hd K i' j)) → post (nI i)) (h0 : (∀ i, j < i → i < k → ¬ (K i = kd ∧ cm_Hd K i j)) → post (-1)) : ∀ (d i : Nat), i + d = k → j < i → (∀ i', j < i' → i' < i → ¬ (K i' = kd ∧ cm_Hd K i' j)) → wY_find_5 post kd (nI j) (nI k) (nI pv) (nI sv) (nI pc) (nI sc) (nI c) sta ff (nI ln) K Xs Ys Zs inp mm ch lf tr (d + 1) (nI i)
  | 0, i, hi, hj, hb => by
    have hik : i = k := by omega
    subst hik
    exact br_t (nI_le (Nat.le_refl _) (by omega)) (h0 hb)
  | d + 1, i, hi, hj, hb => by
    have hin : vp_in (nI i) 24 := vp_in_nI (by omega) (by decide)
    have hc : (nI i).toNatClampNeg = i := nI_clamp (by omega)
    refine br_f (nI_ge (by omega) (by omega)) (And.intro hin ?_)
    by_cases h : K i = kd
    · refine br_t (by rw [hc]; exact h) (cy_innermost (by omega) ?_ ?_)
      · intro e
        refine br_f (cm_m1ne (by omega)) (nm_r (nI_1 i) (cy_find_l hk h1 h0 d (i + 1) (by omega) (by omega) ?_))
        intro i' a b
        rcases Nat.lt_or_ge i' i with z | z
        · exact hb i' a z
        · have : i' = i := by omega
          subst this
          rintro ⟨_, q, t, e'⟩
          rw [e] at e'
          simp at e'
      · intro j' q t e
        by_cases hjj : j' = j
        · subst hjj
          exact br_t rfl (h1 i hj (by omega) h ⟨q, t, e⟩ hb)
        · have : j' < i := cm_In_lt (cm_Hd_In ⟨q, t, e⟩)
          refine br_f (fun z => hjj ((nI_eq (by omega) (by omega)).mp z)) (nm_r (nI_1 i) (cy_find_l hk h1 h0 d (i + 1) (by omega) (by omega) ?_))
          intro i' a b
          rcases Nat.lt_or_ge i' i with z | z
          · exact hb i' a z
          · have : i' = i := by omega
            subst this
            rintro ⟨_, z⟩
            exact hjj (cm_Hd_uq ⟨q, t, e⟩ z)
    · refine br_f (by rw [hc]; exact h) (nm_r (nI_1 i) (cy_find_l hk h1 h0 d (i + 1) (by omega) (by omega) ?_))
      intro i' a b
      rcases Nat.lt_or_ge i' i with z | z
      · exact hb i' a z
      · have : i' = i := by omega
        subst this
        exact fun z => h z.1
theorem cy_find {post : Int32 → Prop} {kd : Int32} {j k : Nat} (hj : j < k) (hk : k ≤ 24) (h1 : ∀ i, j < i → i < k → K i = kd → cm_Hd K i j → (∀ i', j < i' → i' < i → ¬ (K i' = kd ∧ cm_Hd K i' j)) → post (nI i)) (h0 : (∀ i, j < i → i < k → ¬ (K i = kd ∧ cm_Hd K i j)) → post (-1)) : wpY_find post (nI pv, nI sv, nI pc, nI sc, nI c, sta, ff, nI ln, K, Xs, Ys, Zs, inp, mm, ch, lf, tr) kd (nI j) (nI k) :=
  nm_r (nI_1 j) ⟨k - (j + 1) + 1, cy_find_l hk h1 h0 (k - (j + 1)) (j + 1) (by omega) (by omega) fun i' a b => by omega⟩
theorem cy_cnt_l {post : Int32 → Prop} {kd : Int32} {k : Nat} (hk : k ≤ 24) (h : post (nI (cm_cp (cm_isK K kd) (cm_st K k)))) : ∀ (d i : Nat), i + d = k → wY_countOpen_5 post kd (nI k) (nI pv) (nI sv) (nI pc) (nI sc) (nI c) sta ff (nI ln) K Xs Ys Zs inp mm ch lf tr (d + 1) (nI (cm_cp (fun j => cm_isK K kd j && decide (j < i)) (cm_st K k))) (nI i)
  | 0, i, hi => by
    have hik : i = k := by omega
    subst hik
    refine br_t (nI_le (Nat.le_refl _) (by omega)) ?_
    have : cm_cp (fun j => cm_isK K kd j && decide (j < i)) (cm_st K i) = cm_cp (cm_isK K kd) (cm_st K i) := by
      apply cm_cp_eq
      intro e he
      have := cm_Ch_lt (cm_Ch_st K i) he
      have : e.1 < i := by omega
      simp [this]
    rw [this]
    exact h
  | d + 1, i, hi => by
    have hin : vp_in (nI i) 24 := vp_in_nI (by omega) (by decide)
    have hc : (nI i).toNatClampNeg = i := nI_clamp (by omega)
    refine br_f (nI_ge (by omega) (by omega)) (And.intro hin ?_)
    by_cases hK : K i = kd
    · refine br_t (by rw [hc]; exact hK) (cy_openAt (by omega) hk ?_ ?_)
      · intro hIn
        refine br_f (by decide) (nm_r (nI_1 _) (nm_r (nI_1 i) ?_))
        rw [← cm_cp_s1 (p := cm_isK K kd) (by simp [cm_isK, hK]) (cm_Ch_st K k) hIn]
        exact cy_cnt_l hk h d (i + 1) (by omega)
      · intro hn
        refine br_t rfl (nm_r (nI_1 i) ?_)
        rw [← cm_cp_s0 (p := cm_isK K kd) (fun e he hei => absurd ⟨e, he, hei⟩ hn)]
        exact cy_cnt_l hk h d (i + 1) (by omega)
    · refine br_f (by rw [hc]; exact hK) (nm_r (nI_1 i) ?_)
      rw [← cm_cp_s0 (p := cm_isK K kd) (fun e he hei => by simp [cm_isK, hK])]
      exact cy_cnt_l hk h d (i + 1) (by omega)
theorem cy_countOpen {post : Int32 → Prop} {kd : Int32} {k : Nat} (hk : k ≤ 24) (h : post (nI (cm_cp (cm_isK K kd) (cm_st K k)))) : wpY_countOpen post (nI pv, nI sv, nI pc, nI sc, nI c, sta, ff, nI ln, K, Xs, Ys, Zs, inp, mm, ch, lf, tr) kd (nI k) := by
  have a : wY_countOpen_5 post kd (nI k) (nI pv) (nI sv) (nI pc) (nI sc) (nI c) sta ff (nI ln) K Xs Ys Zs inp mm ch lf tr (k + 1) (nI (cm_cp (fun j => cm_isK K kd j && decide (j < 0)) (cm_st K k))) (nI 0) := cy_cnt_l hk h k 0 (by omega)
  rw [cm_cp_0 (fun e he => by simp)] at a
  exact ⟨k + 1, a⟩
theorem cy_secret {post : Int32 → Prop} {x : Int32} (h0 : x < nI pv → post 0) (h1 : ¬ x < nI pv → post 1) : wpY_secret post (nI pv, nI sv, nI pc, nI sc, nI c, sta, ff, nI ln, K, Xs, Ys, Zs, inp, mm, ch, lf, tr) x := br_c h0 h1
theorem cy_sc_l {post : Int32 → Prop} {k : Nat} (hk : k ≤ 24) (h1 : ∀ e, e ∈ cm_st K k → cm_sec K Xs (nI pv) e.1 = true → post 1) (h0 : (∀ e, e ∈ cm_st K k → cm_sec K Xs (nI pv) e.1 = false) → post 0) : ∀ (d i : Nat), i + d = k → (∀ e, e ∈ cm_st K k → e.1 < i → cm_sec K Xs (nI pv) e.1 = false) → wY_secretControl_2 post (nI k) (nI pv) (nI sv) (nI pc) (nI sc) (nI c) sta ff (nI ln) K Xs Ys Zs inp mm ch lf tr (d + 1) (nI i)
  | 0, i, hi, hb => by
    have hik : i = k := by omega
    subst hik
    exact br_t (nI_le (Nat.le_refl _) (by omega)) (h0 fun e he => hb e he (by have := cm_Ch_lt (cm_Ch_st K i) he; omega))
  | d + 1, i, hi, hb => by
    have hin : vp_in (nI i) 24 := vp_in_nI (by omega) (by decide)
    have hc : (nI i).toNatClampNeg = i := nI_clamp (by omega)
    have go : (∀ e, e ∈ cm_st K k → e.1 = i → cm_sec K Xs (nI pv) i = false) → wY_secretControl_2 post (nI k) (nI pv) (nI sv) (nI pc) (nI sc) (nI c) sta ff (nI ln) K Xs Ys Zs inp mm ch lf tr (d + 1) (nI (i + 1)) := fun z =>
      cy_sc_l hk h1 h0 d (i + 1) (by omega) fun e he hl => by
        by_cases hei : e.1 = i
        · rw [hei]; exact z e he hei
        · exact hb e he (by omega)
    refine br_f (nI_ge (by omega) (by omega)) (And.intro hin ?_)
    by_cases hK : K i = 11
    · refine br_t (by rw [hc]; exact hK) (And.intro hin (cy_secret ?_ ?_))
      · rw [hc]
        exact fun hx => br_t rfl (nm_r (nI_1 i) (go fun e he hei => cm_sec_f2 hx))
      · rw [hc]
        intro hx
        refine br_f (by decide) (cy_openAt (by omega) hk ?_ ?_)
        · rintro ⟨e, he, hei⟩
          exact br_f (by decide) (h1 e he (by rw [hei]; exact cm_sec_t hK hx))
        · intro hn
          exact br_t rfl (nm_r (nI_1 i) (go fun e he hei => absurd ⟨e, he, hei⟩ hn))
    · exact br_f (by rw [hc]; exact hK) (nm_r (nI_1 i) (go fun e he hei => cm_sec_f1 hK))
theorem cy_secretControl {post : Int32 → Prop} {k : Nat} (hk : k ≤ 24) (h1 : ∀ e, e ∈ cm_st K k → cm_sec K Xs (nI pv) e.1 = true → post 1) (h0 : (∀ e, e ∈ cm_st K k → cm_sec K Xs (nI pv) e.1 = false) → post 0) : wpY_secretControl post (nI pv, nI sv, nI pc, nI sc, nI c, sta, ff, nI ln, K, Xs, Ys, Zs, inp, mm, ch, lf, tr) (nI k) :=
  ⟨k + 1, cy_sc_l hk h1 h0 k 0 (by omega) fun e he hl => absurd hl (Nat.not_lt_zero _)⟩
theorem cy_lv_l {post : Int32 → Prop} {k : Nat} (hk : k ≤ 24) (h1 : cm_Lv K Xs (nI pv) ch (cm_st K k) → post 1) (h0 : ¬ cm_Lv K Xs (nI pv) ch (cm_st K k) → post 0) : ∀ (d i : Nat), i + d = k → (∀ e, e ∈ cm_st K k → e.1 < i → cm_sec K Xs (nI pv) e.1 = true → ch e.1 = (if e.2 = e.1 then 1 else 0)) → wY_live_2 post (nI k) (nI pv) (nI sv) (nI pc) (nI sc) (nI c) sta ff (nI ln) K Xs Ys Zs inp mm ch lf tr (d + 1) (nI i)
  | 0, i, hi, hb => by
    have hik : i = k := by omega
    subst hik
    exact br_t (nI_le (Nat.le_refl _) (by omega)) (h1 fun e he => hb e he (by have := cm_Ch_lt (cm_Ch_st K i) he; omega))
  | d + 1, i, hi, hb => by
    have hin : vp_in (nI i) 24 := vp_in_nI (by omega) (by decide)
    have hc : (nI i).toNatClampNeg = i := nI_clamp (by omega)
    have go : (∀ e, e ∈ cm_st K k → e.1 = i → cm_sec K Xs (nI pv) i = true → ch i = (if e.2 = i then 1 else 0)) → wY_live_2 post (nI k) (nI pv) (nI sv) (nI pc) (nI sc) (nI c) sta ff (nI ln) K Xs Ys Zs inp mm ch lf tr (d + 1) (nI (i + 1)) := fun z =>
      cy_lv_l hk h1 h0 d (i + 1) (by omega) fun e he hl hs => by
        by_cases hei : e.1 = i
        · rw [hei] at hs ⊢; exact z e he hei hs
        · exact hb e he (by omega) hs
    refine br_f (nI_ge (by omega) (by omega)) (And.intro hin ?_)
    by_cases hK : K i = 11
    · refine br_t (by rw [hc]; exact hK) (And.intro hin (cy_secret ?_ ?_))
      · rw [hc]
        exact fun hx => br_t rfl (nm_r (nI_1 i) (go fun e he hei hs => by rw [cm_sec_f2 hx] at hs; exact absurd hs (by decide)))
      · rw [hc]
        intro hx
        refine br_f (by decide) (cy_openAt (by omega) hk ?_ ?_)
        · rintro ⟨e, he, hei⟩
          have hs : cm_sec K Xs (nI pv) e.1 = true := by rw [hei]; exact cm_sec_t hK hx
          have uq : ∀ e', e' ∈ cm_st K k → e'.1 = i → e' = e := fun e' he' hi' => cm_Ch_uq (cm_Ch_st K k) he' he (hi'.trans hei.symm)
          have hek : e = (i, e.2) := by rw [← hei]
          refine br_f (by decide) (cy_find (by omega) hk ?_ ?_)
          · intro i' hi1 hi2 hk' hh _
            have hq : e.2 ≠ e.1 := by
              have := cm_q2' hk' hh hi2 (by rw [← hek]; exact he)
              omega
            refine br_t (nI_pos' (by omega)) (And.intro hin ?_)
            by_cases hz : 0 = ch i
            · refine br_t (by rw [hc]; exact hz) (nm_r (nI_1 i) (go fun e' he' hi' _ => ?_))
              rw [uq e' he' hi', if_neg (by rw [← hei]; exact hq)]
              exact hz.symm
            · refine br_f (by rw [hc]; exact hz) (h0 fun z => hz ?_)
              have := z e he hs
              rw [if_neg hq, hei] at this
              exact this.symm
          · intro hno
            have hq : e.2 = e.1 := by
              by_cases hq : e.2 = e.1
              · exact hq
              · have := cm_q1 he hq
                have hlt := cm_Ch_lt (cm_Ch_st K k) he
                exact absurd ⟨this.1, by rw [← hei]; exact this.2⟩ (hno e.2 (by omega) (by omega))
            refine br_f (by decide) (And.intro hin ?_)
            by_cases hz : 1 = ch i
            · refine br_t (by rw [hc]; exact hz) (nm_r (nI_1 i) (go fun e' he' hi' _ => ?_))
              rw [uq e' he' hi', if_pos (by rw [← hei]; exact hq)]
              exact hz.symm
            · refine br_f (by rw [hc]; exact hz) (h0 fun z => hz ?_)
              have := z e he hs
              rw [if_pos hq, hei] at this
              exact this.symm
        · intro hn
          exact br_t rfl (nm_r (nI_1 i) (go fun e he hei => absurd ⟨e, he, hei⟩ hn))
    · exact br_f (by rw [hc]; exact hK) (nm_r (nI_1 i) (go fun e he hei hs => by rw [cm_sec_f1 hK] at hs; exact absurd hs (by decide)))
theorem cy_live {post : Int32 → Prop} {k : Nat} (hk : k ≤ 24) (h1 : cm_Lv K Xs (nI pv) ch (cm_st K k) → post 1) (h0 : ¬ cm_Lv K Xs (nI pv) ch (cm_st K k) → post 0) : wpY_live post (nI pv, nI sv, nI pc, nI sc, nI c, sta, ff, nI ln, K, Xs, Ys, Zs, inp, mm, ch, lf, tr) (nI k) :=
  ⟨k + 1, cy_lv_l hk h1 h0 k 0 (by omega) fun e he hl => absurd hl (Nat.not_lt_zero _)⟩
end
end
section
/-- the kind of the innermost opener -/
def cm_tk (K : Nat → Int32) : List (Nat × Nat) → Int32
  | [] => 0
  | e :: _ => K e.1
def cm_hs (sec : Nat → Bool) : List (Nat × Nat) → Bool
  | [] => false
  | e :: _ => sec e.1
/-- the place of statement k in the linear code -/
def cm_ps (K : Nat → Int32) : Nat → Nat
  | 0 => 0
  | k + 1 => cm_ps K k + (if K k = 14 ∧ cm_tk K (cm_st K k) = 11 then 0 else 1)
def cm_Em (K : Nat → Int32) (i : Nat) : Prop := ¬ (K i = 14 ∧ cm_tk K (cm_st K i) = 11)
theorem cm_ps_s {K : Nat → Int32} {k : Nat} (h : cm_Em K k) : cm_ps K (k + 1) = cm_ps K k + 1 := by
  show cm_ps K k + (if _ then 0 else 1) = _
  rw [if_neg h]
theorem cm_ps_n {K : Nat → Int32} {k : Nat} (h : K k = 14) (h2 : cm_tk K (cm_st K k) = 11) : cm_ps K (k + 1) = cm_ps K k := by
  show cm_ps K k + (if _ then 0 else 1) = _
  rw [if_pos ⟨h, h2⟩]; rfl
theorem cm_Em_k {K : Nat → Int32} {k : Nat} (h : K k ≠ 14) : cm_Em K k := fun z => h z.1
theorem cm_Em_r {K : Nat → Int32} {k j q : Nat} {t : List (Nat × Nat)} (h : cm_st K k = (j, q) :: t) (hj : K j = 13) : cm_Em K k := fun z => by
  have := z.2
  rw [h] at this
  have : K j = 11 := this
  rw [hj] at this
  exact absurd this (by decide)
theorem cm_ps_1 (K : Nat → Int32) (k : Nat) : cm_ps K k ≤ cm_ps K (k + 1) ∧ cm_ps K (k + 1) ≤ cm_ps K k + 1 := by
  show _ ≤ cm_ps K k + (if _ then 0 else 1) ∧ cm_ps K k + (if _ then 0 else 1) ≤ _
  split <;> omega
theorem cm_ps_le (K : Nat → Int32) : ∀ k, cm_ps K k ≤ k
  | 0 => Nat.le_refl _
  | k + 1 => by have := cm_ps_le K k; have := cm_ps_1 K k; omega
theorem cm_ps_mono (K : Nat → Int32) (i : Nat) : ∀ d, cm_ps K i ≤ cm_ps K (i + d)
  | 0 => Nat.le_refl _
  | d + 1 => by
    have a := cm_ps_mono K i d
    have b := cm_ps_1 K (i + d)
    show _ ≤ cm_ps K (i + d + 1)
    omega
theorem cm_ps_lt {K : Nat → Int32} {i k : Nat} (h : cm_Em K i) (hi : i < k) : cm_ps K i < cm_ps K k := by
  obtain ⟨d, rfl⟩ : ∃ d, k = i + 1 + d := ⟨k - (i + 1), by omega⟩
  have a := cm_ps_mono K (i + 1) d
  rw [cm_ps_s h] at a
  omega
theorem cm_ps_ne {K : Nat → Int32} {i k : Nat} (h : cm_Em K i) (hk : cm_Em K k) (hi : i ≠ k) : cm_ps K i ≠ cm_ps K k := by
  rcases Nat.lt_or_gt_of_ne hi with z | z
  · have := cm_ps_lt h z; omega
  · have := cm_ps_lt hk z; omega
/-- patches do not come back -/
theorem cm_fr2 {K : Nat → Int32} {q m : Nat} (hq : q < m) (h : ∀ x, x ∈ cm_st K m → x.2 ≠ q) : ∀ d x, x ∈ cm_st K (m + d) → x.2 ≠ q
  | 0, x, hx => h x hx
  | d + 1, x, hx => by
    rcases cm_mem_s (show x ∈ cm_st K (m + d + 1) from hx) with hx | ⟨hx, _⟩ | ⟨_, q', t, _, hx⟩
    · exact cm_fr2 hq h d x hx
    · rw [hx]; show m + d ≠ q; omega
    · rw [hx]; show m + d ≠ q; omega
theorem cm_link {K : Nat → Int32} {e k j q : Nat} {t : List (Nat × Nat)} (hK : K e = 12 ∨ K e = 14) (hS : cm_st K e = (j, q) :: t) (he : e < k) : ∀ x, x ∈ cm_st K k → x.2 ≠ q := by
  obtain ⟨d, rfl⟩ : ∃ d, k = e + 1 + d := ⟨k - (e + 1), by omega⟩
  have hc := cm_Ch_st K e
  rw [hS] at hc
  have hj : j ≤ q := hc.1
  have hqe : q < e := hc.2.1
  refine cm_fr2 (by omega) ?_ d
  rcases hK with hK | hK
  · rw [cm_st_else hK, hS]
    intro x hx
    rcases List.mem_cons.mp (show x ∈ (j, e) :: t from hx) with rfl | hx
    · show e ≠ q; omega
    · have := cm_Ch_lt hc.2.2 hx
      have : x.2 < j := this.2
      omega
  · rw [cm_st_end hK, hS]
    intro x hx
    have := cm_Ch_lt hc.2.2 (show x ∈ t from hx)
    have : x.2 < j := this.2
    omega
/-- a patch is an opener or an ELSE -/
theorem cm_q_k {K : Nat → Int32} {k : Nat} {e : Nat × Nat} (h : e ∈ cm_st K k) : K e.2 ≠ 14 := by
  by_cases hq : e.2 = e.1
  · rw [hq]
    rcases cm_op h with z | z <;> (rw [z]; decide)
  · rw [(cm_q1 h hq).1]; decide
def cm_Blk (K : Nat → Int32) (sec : Nat → Bool) (bk bp bs be : Nat → Int32) : List (Nat × Nat) → Prop
  | [] => True
  | e :: t => bk t.length = K e.1 ∧ (sec e.1 = false → bp t.length = nI (cm_ps K e.2)) ∧ bs t.length = (if sec e.1 = true then 1 else 0) ∧ be t.length = (if e.2 = e.1 then 0 else 1) ∧ cm_Blk K sec bk bp bs be t
theorem cm_Blk_fr {K : Nat → Int32} {sec : Nat → Bool} {bk bp bs be bk' bp' bs' be' : Nat → Int32} : ∀ {S : List (Nat × Nat)}, (∀ i, i < S.length → bk' i = bk i ∧ bp' i = bp i ∧ bs' i = bs i ∧ be' i = be i) → cm_Blk K sec bk bp bs be S → cm_Blk K sec bk' bp' bs' be' S
  | [], _, _ => trivial
  | e :: t, h, ⟨a, b, c, d, r⟩ => by
    obtain ⟨h1, h2, h3, h4⟩ := h t.length (by simp)
    exact ⟨h1.trans a, fun z => h2.trans (b z), h3.trans c, h4.trans d, cm_Blk_fr (fun i hi => h i (by simp; omega)) r⟩
def cm_opc (K : Nat → Int32) (sec : Nat → Bool) (i : Nat) : Int32 :=
  if K i = 11 then (if sec i = true then 11 else 13) else if K i = 12 then (if cm_hs sec (cm_st K i) = true then 12 else 14) else if K i = 13 then 15 else if K i = 14 then 16 else K i
def cm_rgc (K : Nat → Int32) (sec : Nat → Bool) (i : Nat) : Nat :=
  if K i = 13 then cm_cp (cm_isK K 13) (cm_st K i) else if K i = 14 then cm_cp (cm_isK K 13) (cm_st K i).tail else cm_cp sec (cm_st K i)
def cm_Cd (K : Nat → Int32) (sec : Nat → Bool) (co so rg : Nat → Int32) (i : Nat) : Prop :=
  co (cm_ps K i) = cm_opc K sec i ∧ so (cm_ps K i) = nI i ∧ rg (cm_ps K i) = nI (cm_rgc K sec i)
def cm_Code (K : Nat → Int32) (sec : Nat → Bool) (co so rg : Nat → Int32) (k : Nat) : Prop := ∀ i, i < k → cm_Em K i → cm_Cd K sec co so rg i
def cm_TgA (K : Nat → Int32) (sec : Nat → Bool) (tg : Nat → Int32) (k : Nat) : Prop :=
  ∀ e, e < k → (K e = 12 ∨ K e = 14) → ∀ j q t, cm_st K e = (j, q) :: t → sec j = false → tg (cm_ps K q) = nI (cm_ps K (e + 1))
def cm_TgB (K : Nat → Int32) (tg : Nat → Int32) (k : Nat) : Prop :=
  ∀ i, i < k → K i = 14 → ∀ j q t, cm_st K i = (j, q) :: t → K j = 13 → tg (cm_ps K i) = nI (cm_ps K j + 1)
def cm_Acc (K Xs : Nat → Int32) (P : Int32) (k : Nat) : Prop :=
  (K k = 11 → (cm_st K k).length < 4) ∧ (K k = 12 → ∃ j t, cm_st K k = (j, j) :: t ∧ K j = 11) ∧
  (K k = 13 → (cm_st K k).length < 4 ∧ cm_cp (cm_isK K 13) (cm_st K k) < 2 ∧ Xs k < P) ∧ (K k = 14 → cm_st K k ≠ [])
theorem cm_rep_q {K Xs : Nat → Int32} {P : Int32} {k j q : Nat} (ha : ∀ i, i < k → cm_Acc K Xs P i) (h : (j, q) ∈ cm_st K k) (hj : K j = 13) : q = j := by
  by_cases hq : q = j
  · exact hq
  · obtain ⟨hk, hh⟩ := cm_q1 h hq
    have hlt := cm_Ch_lt (cm_Ch_st K k) h
    obtain ⟨j', t', e', hj'⟩ := (ha q hlt.2).2.1 hk
    have : j' = j := cm_Hd_uq ⟨j', t', e'⟩ hh
    rw [this, hj] at hj'
    exact absurd hj' (by decide)
/-- X's own picture at statement k of a compilation -/
def cm_CI (K Xs : Nat → Int32) (P : Int32) (ob orr os cl : Int32) (bk bp bs be co so rg tg : Nat → Int32) (k : Nat) : Prop :=
  ob = nI (cm_st K k).length ∧ orr = nI (cm_cp (cm_isK K 13) (cm_st K k)) ∧ os = nI (cm_cp (cm_sec K Xs P) (cm_st K k)) ∧ cl = nI (cm_ps K k) ∧
  cm_Blk K (cm_sec K Xs P) bk bp bs be (cm_st K k) ∧ cm_Code K (cm_sec K Xs P) co so rg k ∧ cm_TgA K (cm_sec K Xs P) tg k ∧ cm_TgB K tg k ∧
  (cm_st K k).length ≤ 4 ∧ cm_cp (cm_isK K 13) (cm_st K k) ≤ 2
/-- the code grows by the instruction of k -/
theorem cm_Code_s {K : Nat → Int32} {sec : Nat → Bool} {co so rg : Nat → Int32} {k : Nat} {op r : Int32} (h : cm_Code K sec co so rg k) (he : cm_Em K k) (h1 : op = cm_opc K sec k) (h2 : r = nI (cm_rgc K sec k)) : cm_Code K sec (upd co (cm_ps K k) op) (upd so (cm_ps K k) (nI k)) (upd rg (cm_ps K k) r) (k + 1) := by
  intro i hi hei
  by_cases hik : i = k
  · subst hik
    exact ⟨pk_us.trans h1, pk_us, pk_us.trans h2⟩
  · have hne := cm_ps_ne hei he hik
    obtain ⟨a, b, c⟩ := h i (by omega) hei
    exact ⟨(pk_un hne).trans a, (pk_un hne).trans b, (pk_un hne).trans c⟩
theorem cm_Code_n {K : Nat → Int32} {sec : Nat → Bool} {co so rg : Nat → Int32} {k : Nat} (h : cm_Code K sec co so rg k) (he : ¬ cm_Em K k) : cm_Code K sec co so rg (k + 1) := by
  intro i hi hei
  by_cases hik : i = k
  · subst hik; exact absurd hei he
  · exact h i (by omega) hei
/-- targets: a fresh slot -/
theorem cm_TgA_s {K : Nat → Int32} {sec : Nat → Bool} {tg : Nat → Int32} {k : Nat} {v : Int32} (h : cm_TgA K sec tg k) (hn : K k ≠ 12 ∧ K k ≠ 14 ∨ cm_hs sec (cm_st K k) = true) : cm_TgA K sec (upd tg (cm_ps K k) v) (k + 1) := by
  intro e he hK j q t hS hs
  have hm : (j, q) ∈ cm_st K e := by rw [hS]; exact List.mem_cons_self ..
  by_cases hek : e = k
  · subst hek
    rcases hn with ⟨a, b⟩ | a
    · exact absurd hK (by simp [a, b])
    · rw [hS] at a
      have a : sec j = true := a
      rw [a] at hs
      exact absurd hs (by decide)
  · have hlt := cm_Ch_lt (cm_Ch_st K e) hm
    have : cm_ps K q < cm_ps K k := cm_ps_lt (cm_Em_k (cm_q_k hm)) (by omega)
    rw [pk_un (by omega)]
    exact h e (by omega) hK j q t hS hs
theorem cm_TgA_n {K : Nat → Int32} {sec : Nat → Bool} {tg : Nat → Int32} {k : Nat} (h : cm_TgA K sec tg k) (hn : cm_hs sec (cm_st K k) = true) : cm_TgA K sec tg (k + 1) := by
  intro e he hK j q t hS hs
  by_cases hek : e = k
  · subst hek
    rw [hS] at hn
    have a : sec j = true := hn
    rw [a] at hs
    exact absurd hs (by decide)
  · exact h e (by omega) hK j q t hS hs
/-- targets: the head's patch is written -/
theorem cm_TgA_w {K : Nat → Int32} {sec : Nat → Bool} {tg tg' : Nat → Int32} {k j q : Nat} {t : List (Nat × Nat)} (h : cm_TgA K sec tg k) (hS : cm_st K k = (j, q) :: t) (hw : tg' (cm_ps K q) = nI (cm_ps K (k + 1))) (ho : ∀ p, p < cm_ps K k → p ≠ cm_ps K q → tg' p = tg p) : cm_TgA K sec tg' (k + 1) := by
  intro e he hK j' q' t' hS' hs
  have hm' : (j', q') ∈ cm_st K e := by rw [hS']; exact List.mem_cons_self ..
  by_cases hek : e = k
  · subst hek
    rw [hS] at hS'
    injection hS' with a _
    injection a with _ a
    subst a
    exact hw
  · have hlt := cm_Ch_lt (cm_Ch_st K e) hm'
    have hm : (j, q) ∈ cm_st K k := by rw [hS]; exact List.mem_cons_self ..
    have hne := cm_link hK hS' (k := k) (by omega) (j, q) hm
    have h1 : cm_ps K q' < cm_ps K k := cm_ps_lt (cm_Em_k (cm_q_k hm')) (by omega)
    rw [ho _ h1 (cm_ps_ne (cm_Em_k (cm_q_k hm')) (cm_Em_k (cm_q_k hm)) (fun z => hne z.symm))]
    exact h e (by omega) hK j' q' t' hS' hs
theorem cm_TgB_s {K : Nat → Int32} {tg tg' : Nat → Int32} {k : Nat} (h : cm_TgB K tg k) (hn : K k = 14 → cm_tk K (cm_st K k) ≠ 13) (ho : ∀ i, i < k → K i = 14 → cm_Em K i → tg' (cm_ps K i) = tg (cm_ps K i)) : cm_TgB K tg' (k + 1) := by
  intro i hi hK j q t hS hj
  by_cases hik : i = k
  · subst hik
    refine absurd ?_ (hn hK)
    rw [hS]; exact hj
  · rw [ho i (by omega) hK (cm_Em_r hS hj)]
    exact h i (by omega) hK j q t hS hj
theorem cm_TgB_w {K : Nat → Int32} {tg tg' : Nat → Int32} {k j q : Nat} {t : List (Nat × Nat)} (h : cm_TgB K tg k) (hS : cm_st K k = (j, q) :: t) (hw : tg' (cm_ps K k) = nI (cm_ps K j + 1)) (ho : ∀ i, i < k → K i = 14 → cm_Em K i → tg' (cm_ps K i) = tg (cm_ps K i)) : cm_TgB K tg' (k + 1) := by
  intro i hi hK j' q' t' hS' hj
  by_cases hik : i = k
  · subst hik
    rw [hS] at hS'
    injection hS' with a _
    injection a with a _
    subst a
    exact hw
  · rw [ho i (by omega) hK (cm_Em_r hS' hj)]
    exact h i (by omega) hK j' q' t' hS' hj
/-- a statement as put accepts it -/
def cm_Vd (pv sv : Nat) (K Xs Ys Zs : Nat → Int32) (k : Nat) : Prop :=
  (∃ t, t ≤ 14 ∧ K k = nI t) ∧ (K k ≠ 10 → K k ≠ 12 → K k ≠ 14 → ∃ x, x < pv + sv ∧ Xs k = nI x) ∧ (K k = 10 → Xs k = 1 ∨ Xs k = 2) ∧
  (K k = 9 → Ys k = 1 ∨ Ys k = 2) ∧ (K k < 11 → K k ≠ 0 → K k ≠ 9 → ∃ y, y < pv + sv ∧ Ys k = nI y) ∧ (K k < 11 → K k ≠ 0 → ∃ z, z < pv + sv ∧ Zs k = nI z)
theorem cm_Vd_k {pv sv : Nat} {K Xs Ys Zs : Nat → Int32} {k : Nat} (h : cm_Vd pv sv K Xs Ys Zs k) : K k = 11 ∨ K k = 12 ∨ K k = 13 ∨ K k = 14 ∨ (K k < 11 ∧ ¬ 10 < K k ∧ K k ≠ 11 ∧ K k ≠ 12 ∧ K k ≠ 13 ∧ K k ≠ 14) := by
  obtain ⟨t, ht, e⟩ := h.1
  rcases Nat.lt_or_ge t 11 with z | z
  · have h1 : K k < 11 := by rw [e]; exact nI_lt (b := 11) z (by decide)
    have h2 : ¬ 10 < K k := by rw [e]; exact nI_nlt (a := 10) (by omega) (by decide)
    refine Or.inr (Or.inr (Or.inr (Or.inr ⟨h1, h2, ?_, ?_, ?_, ?_⟩)))
    · intro x; rw [x] at h1; exact absurd h1 (by decide)
    · intro x; rw [x] at h1; exact absurd h1 (by decide)
    · intro x; rw [x] at h1; exact absurd h1 (by decide)
    · intro x; rw [x] at h1; exact absurd h1 (by decide)
  · have : t = 11 ∨ t = 12 ∨ t = 13 ∨ t = 14 := by omega
    rcases this with rfl | rfl | rfl | rfl
    · exact Or.inl e
    · exact Or.inr (Or.inl e)
    · exact Or.inr (Or.inr (Or.inl e))
    · exact Or.inr (Or.inr (Or.inr (Or.inl e)))
end
section
/-- statement k writes public data; it reads secret data -/
def cm_W (K Xs : Nat → Int32) (P : Int32) (k : Nat) : Prop := (K k = 10 ∧ Xs k = 1) ∨ (K k ≠ 10 ∧ Xs k < P)
def cm_R (K Ys Zs : Nat → Int32) (P : Int32) (k : Nat) : Prop := (K k = 9 ∧ (Ys k = 2 ∨ ¬ Zs k < P)) ∨ (K k ≠ 0 ∧ K k ≠ 9 ∧ (¬ Ys k < P ∨ ¬ Zs k < P))
section
variable {o1 o2 o3 o4 o5 o6 sta ob orr os cl dg ff : Int32} {pv sv pc sc c ln : Nat} {sz inp mm K Xs Ys Zs bk bp bs be co so rg tg mk ct ev ch lf tr : Nat → Int32}
theorem cx_isSecret {post : Int32 → Prop} {x : Int32} (h0 : x < nI pv → post 0) (h1 : ¬ x < nI pv → post 1) : wpX_isSecret post (o1, o2, o3, o4, o5, o6, nI pv, nI c, sta, ob, orr, os, cl, nI ln, dg, ff, sz, inp, mm, K, Xs, Ys, Zs, bk, bp, bs, be, co, so, rg, tg, mk, ct, ev) x := br_c h0 h1
theorem cx_writes {post : Int32 → Prop} {k : Nat} (hk : k < 24) (h1 : cm_W K Xs (nI pv) k → post 1) (h0 : ¬ cm_W K Xs (nI pv) k → post 0) : wpX_writesPublic post (o1, o2, o3, o4, o5, o6, nI pv, nI c, sta, ob, orr, os, cl, nI ln, dg, ff, sz, inp, mm, K, Xs, Ys, Zs, bk, bp, bs, be, co, so, rg, tg, mk, ct, ev) (nI k) := by
  have hin : vp_in (nI k) 24 := vp_in_nI hk (by decide)
  have hc : (nI k).toNatClampNeg = k := nI_clamp (by omega)
  refine And.intro hin ?_
  by_cases h : K k = 10
  · refine br_t (by rw [hc]; exact h) (And.intro hin ?_)
    by_cases hx : Xs k = 1
    · exact br_t (by rw [hc]; exact hx) (h1 (Or.inl ⟨h, hx⟩))
    · exact br_f (by rw [hc]; exact hx) (h0 fun z => z.elim (fun y => hx y.2) (fun y => y.1 h))
  · refine br_f (by rw [hc]; exact h) (And.intro hin (cx_isSecret ?_ ?_))
    · try rw [hc]
      exact fun hx => br_t rfl (h1 (Or.inr ⟨h, hx⟩))
    · try rw [hc]
      exact fun hx => br_f (by decide) (h0 fun z => z.elim (fun y => h y.1) (fun y => hx y.2))
theorem cx_reads {post : Int32 → Prop} {k : Nat} (hk : k < 24) (h1 : cm_R K Ys Zs (nI pv) k → post 1) (h0 : ¬ cm_R K Ys Zs (nI pv) k → post 0) : wpX_readsSecret post (o1, o2, o3, o4, o5, o6, nI pv, nI c, sta, ob, orr, os, cl, nI ln, dg, ff, sz, inp, mm, K, Xs, Ys, Zs, bk, bp, bs, be, co, so, rg, tg, mk, ct, ev) (nI k) := by
  have hin : vp_in (nI k) 24 := vp_in_nI hk (by decide)
  have hc : (nI k).toNatClampNeg = k := nI_clamp (by omega)
  refine And.intro hin ?_
  by_cases h : K k = 0
  · exact br_t (by rw [hc]; exact h) (h0 fun z => z.elim (fun y => by rw [h] at y; exact absurd y.1 (by decide)) (fun y => y.1 h))
  · refine br_f (by rw [hc]; exact h) (And.intro hin ?_)
    by_cases h9 : K k = 9
    · refine br_t (by rw [hc]; exact h9) (And.intro hin ?_)
      by_cases hy : Ys k = 2
      · exact br_t (by rw [hc]; exact hy) (h1 (Or.inl ⟨h9, Or.inl hy⟩))
      · refine br_f (by rw [hc]; exact hy) (And.intro hin (cx_isSecret ?_ ?_))
        · try rw [hc]
          exact fun hx => br_t rfl (h0 fun z => z.elim (fun y => y.2.elim hy (fun w => w hx)) (fun y => y.2.1 h9))
        · try rw [hc]
          exact fun hx => br_f (by decide) (h1 (Or.inl ⟨h9, Or.inr hx⟩))
    · refine br_f (by rw [hc]; exact h9) (And.intro hin (cx_isSecret ?_ ?_))
      · try rw [hc]
        intro hy
        refine br_t rfl (And.intro hin (cx_isSecret ?_ ?_))
        · try rw [hc]
          exact fun hx => br_t rfl (h0 fun z => z.elim (fun y => h9 y.1) (fun y => y.2.2.elim (fun w => w hy) (fun w => w hx)))
        · try rw [hc]
          exact fun hx => br_f (by decide) (h1 (Or.inr ⟨h, h9, Or.inr hx⟩))
      · try rw [hc]
        exact fun hy => br_f (by decide) (h1 (Or.inr ⟨h, h9, Or.inl hy⟩))
theorem cx_flow {post : Int32 → Prop} {k s : Nat} (hk : k < 24) (hos : os = nI s) (hs : s ≤ 4) (h0 : ¬ cm_W K Xs (nI pv) k → post 0) (h4 : cm_W K Xs (nI pv) k → cm_R K Ys Zs (nI pv) k → post 4) (h5 : cm_W K Xs (nI pv) k → ¬ cm_R K Ys Zs (nI pv) k → 0 < s → post 5) (h00 : cm_W K Xs (nI pv) k → ¬ cm_R K Ys Zs (nI pv) k → s = 0 → post 0) : wpX_checkFlow post (o1, o2, o3, o4, o5, o6, nI pv, nI c, sta, ob, orr, os, cl, nI ln, dg, ff, sz, inp, mm, K, Xs, Ys, Zs, bk, bp, bs, be, co, so, rg, tg, mk, ct, ev) (nI k) := by
  subst hos
  unfold wpX_checkFlow
  refine cx_writes hk ?_ ?_
  · intro hw
    refine br_f (by decide) (cx_reads hk ?_ ?_)
    · exact fun hr => br_f (by decide) (h4 hw hr)
    · exact fun hr => br_t rfl (pk_le s 0 (fun z => h00 hw hr (by omega)) (fun z => h5 hw hr z))
  · exact fun hw => br_t rfl (h0 hw)
theorem cy_256 {post : Int32 → Prop} {k : Nat} (hk : k < 24) (h5 : 0 < cm_cp (cm_sec K Xs (nI pv)) (cm_st K k) → post 5) (h00 : cm_cp (cm_sec K Xs (nI pv)) (cm_st K k) = 0 → post 0) : wY_check_256 post (nI k) 0 (nI pv) (nI sv) (nI pc) (nI sc) (nI c) sta ff (nI ln) K Xs Ys Zs inp mm ch lf tr :=
  br_t rfl (cy_secretControl (by omega) (fun e he hs => br_f (by decide) (h5 (cm_cp_pos he hs))) (fun hn => br_t rfl (h00 (cm_cp_0 hn))))
theorem cy_177 {post : Int32 → Prop} {k : Nat} (hk : k < 24) (h4 : cm_R K Ys Zs (nI pv) k → post 4) (h5 : ¬ cm_R K Ys Zs (nI pv) k → 0 < cm_cp (cm_sec K Xs (nI pv)) (cm_st K k) → post 5) (h00 : ¬ cm_R K Ys Zs (nI pv) k → cm_cp (cm_sec K Xs (nI pv)) (cm_st K k) = 0 → post 0) : wY_check_177 post (nI k) (K k) (nI pv) (nI sv) (nI pc) (nI sc) (nI c) sta ff (nI ln) K Xs Ys Zs inp mm ch lf tr := by
  have hin : vp_in (nI k) 24 := vp_in_nI hk (by decide)
  have hc : (nI k).toNatClampNeg = k := nI_clamp (by omega)
  by_cases h9 : K k = 9
  · refine br_t h9 (And.intro hin ?_)
    by_cases hy : Ys k = 2
    · exact br_t (by rw [hc]; exact hy) (br_f (by decide) (h4 (Or.inl ⟨h9, Or.inl hy⟩)))
    · refine br_f (by rw [hc]; exact hy) (And.intro hin (cy_secret ?_ ?_))
      · try rw [hc]
        intro hx
        have hr : ¬ cm_R K Ys Zs (nI pv) k := fun z => z.elim (fun y => y.2.elim hy (fun w => w hx)) (fun y => y.2.1 h9)
        exact br_t rfl (cy_256 hk (h5 hr) (h00 hr))
      · try rw [hc]
        exact fun hx => br_f (by decide) (br_f (by decide) (h4 (Or.inl ⟨h9, Or.inr hx⟩)))
  · refine br_f h9 ?_
    by_cases h : K k = 0
    · have hr : ¬ cm_R K Ys Zs (nI pv) k := fun z => z.elim (fun y => h9 y.1) (fun y => y.1 h)
      exact br_t h (cy_256 hk (h5 hr) (h00 hr))
    · refine br_f h (And.intro hin (cy_secret ?_ ?_))
      · try rw [hc]
        intro hy
        refine br_t rfl (And.intro hin (cy_secret ?_ ?_))
        · try rw [hc]
          intro hx
          have hr : ¬ cm_R K Ys Zs (nI pv) k := fun z => z.elim (fun y => h9 y.1) (fun y => y.2.2.elim (fun w => w hy) (fun w => w hx))
          exact br_t rfl (cy_256 hk (h5 hr) (h00 hr))
        · try rw [hc]
          exact fun hx => br_f (by decide) (br_f (by decide) (h4 (Or.inr ⟨h, h9, Or.inr hx⟩)))
      · try rw [hc]
        exact fun hy => br_f (by decide) (br_f (by decide) (h4 (Or.inr ⟨h, h9, Or.inl hy⟩)))
/-- Y's check of one of SET .. STORE -/
theorem cy_flow {post : Int32 → Prop} {k : Nat} (hk : k < 24) (hv : cm_Vd pv sv K Xs Ys Zs k) (n1 : K k ≠ 11) (n2 : K k ≠ 12) (n3 : K k ≠ 13) (n4 : K k ≠ 14) (h0 : ¬ cm_W K Xs (nI pv) k → post 0) (h4 : cm_W K Xs (nI pv) k → cm_R K Ys Zs (nI pv) k → post 4) (h5 : cm_W K Xs (nI pv) k → ¬ cm_R K Ys Zs (nI pv) k → 0 < cm_cp (cm_sec K Xs (nI pv)) (cm_st K k) → post 5) (h00 : cm_W K Xs (nI pv) k → ¬ cm_R K Ys Zs (nI pv) k → cm_cp (cm_sec K Xs (nI pv)) (cm_st K k) = 0 → post 0) : wpY_check post (nI pv, nI sv, nI pc, nI sc, nI c, sta, ff, nI ln, K, Xs, Ys, Zs, inp, mm, ch, lf, tr) (nI k) := by
  have hin : vp_in (nI k) 24 := vp_in_nI hk (by decide)
  have hc : (nI k).toNatClampNeg = k := nI_clamp (by omega)
  refine And.intro hin (nm_r (e' := K k) (by rw [hc]) ?_)
  have key : ∀ r : Int32, ((K k = 10 → (vp_in (nI k) 24 ∧ ((((Xs (nI k).toNatClampNeg) = 2 → (post 0)) ∧ (¬ (Xs (nI k).toNatClampNeg) = 2 → (wY_check_177 post (nI k) (K k) (nI pv) (nI sv) (nI pc) (nI sc) (nI c) sta ff (nI ln) K Xs Ys Zs inp mm ch lf tr)))))) ∧ (¬ K k = 10 → (vp_in (nI k) 24 ∧ (wpY_secret (fun r_86 => (((r_86 = 0 → (wY_check_177 post (nI k) (K k) (nI pv) (nI sv) (nI pc) (nI sc) (nI c) sta ff (nI ln) K Xs Ys Zs inp mm ch lf tr)) ∧ (¬ r_86 = 0 → (post 0))))) (nI pv, nI sv, nI pc, nI sc, nI c, sta, ff, nI ln, K, Xs, Ys, Zs, inp, mm, ch, lf, tr) (Xs (nI k).toNatClampNeg))))) := by
    intro r
    by_cases h : K k = 10
    · refine br_t h (And.intro hin ?_)
      rw [hc]
      rcases hv.2.2.1 h with hx | hx
      · have hw : cm_W K Xs (nI pv) k := Or.inl ⟨h, hx⟩
        exact br_f (by rw [hx]; decide) (cy_177 hk (h4 hw) (h5 hw) (h00 hw))
      · exact br_t hx (h0 fun z => z.elim (fun y => by rw [hx] at y; exact absurd y.2 (by decide)) (fun y => y.1 h))
    · refine br_f h (And.intro hin (cy_secret ?_ ?_))
      · try rw [hc]
        intro hx
        have hw : cm_W K Xs (nI pv) k := Or.inr ⟨h, hx⟩
        exact br_t rfl (cy_177 hk (h4 hw) (h5 hw) (h00 hw))
      · try rw [hc]
        exact fun hx => br_f (by decide) (h0 fun z => z.elim (fun y => h y.1) (fun y => hx y.2))
  refine cy_innermost (by omega) (fun _ => ?_) (fun j q t _ => ?_)
  · exact br_f n2 (br_f n4 (br_f n1 (br_f n3 (key 0))))
  · exact br_f n2 (br_f n4 (br_f n1 (br_f n3 (key 0))))
/-- one answer of check for both -/
theorem cm_check {k : Nat} (hk : k < 24) (hv : cm_Vd pv sv K Xs Ys Zs k) (hI : cm_CI K Xs (nI pv) ob orr os cl bk bp bs be co so rg tg k) : ∃ r : Int32, (∀ post : Int32 → Prop, post r → wpX_check post (o1, o2, o3, o4, o5, o6, nI pv, nI c, sta, ob, orr, os, cl, nI ln, dg, ff, sz, inp, mm, K, Xs, Ys, Zs, bk, bp, bs, be, co, so, rg, tg, mk, ct, ev) (nI k)) ∧ (∀ post : Int32 → Prop, post r → wpY_check post (nI pv, nI sv, nI pc, nI sc, nI c, sta, ff, nI ln, K, Xs, Ys, Zs, inp, mm, ch, lf, tr) (nI k)) ∧ (r = 0 → cm_Acc K Xs (nI pv) k) := by
  have hin : vp_in (nI k) 24 := vp_in_nI hk (by decide)
  have hc : (nI k).toNatClampNeg = k := nI_clamp (by omega)
  obtain ⟨e1, e2, e3, e4, hB, -, -, -, hl4, hl2⟩ := hI
  have hcs := cm_cp_sum (K := K) (S := cm_st K k) (fun e he => cm_op he)
  have hcl := cm_cp_le (cm_sec K Xs (nI pv)) (cm_st K k)
  rcases cm_Vd_k hv with h | h | h | h | ⟨hf, hf', n1, n2, n3, n4⟩
  · -- IF
    have hx : ∀ r : Int32, ∀ post : Int32 → Prop, ((ob < 4 → post 0) ∧ (¬ ob < 4 → post 2)) → wpX_check post (o1, o2, o3, o4, o5, o6, nI pv, nI c, sta, ob, orr, os, cl, nI ln, dg, ff, sz, inp, mm, K, Xs, Ys, Zs, bk, bp, bs, be, co, so, rg, tg, mk, ct, ev) (nI k) := fun r post hp =>
      And.intro hin (nm_r (e' := 11) (by rw [hc]; exact h) (br_f (by decide) (br_f (by decide) (br_t rfl hp))))
    have hy : ∀ post : Int32 → Prop, ((cm_st K k).length < 4 → post 0) → (4 ≤ (cm_st K k).length → post 2) → wpY_check post (nI pv, nI sv, nI pc, nI sc, nI c, sta, ff, nI ln, K, Xs, Ys, Zs, inp, mm, ch, lf, tr) (nI k) := fun post p0 p2 => by
      refine And.intro hin (nm_r (e' := 11) (by rw [hc]; exact h) ?_)
      have key : wY_check_83 post (nI k) 11 (nI pv) (nI sv) (nI pc) (nI sc) (nI c) sta ff (nI ln) K Xs Ys Zs inp mm ch lf tr := by
        refine cy_countOpen (by omega) (cy_countOpen (by omega) ?_)
        rw [nI_add, hcs]
        exact pk_lt (cm_st K k).length 4 (fun z => br_t rfl (p0 z)) p2
      refine cy_innermost (by omega) (fun _ => ?_) (fun j q t _ => ?_)
      · exact br_f (by decide) (br_f (by decide) (br_t rfl key))
      · exact br_f (by decide) (br_f (by decide) (br_t rfl key))
    rcases Nat.lt_or_ge (cm_st K k).length 4 with z | z
    · refine ⟨0, fun post hp => hx 0 post ?_, fun post hp => hy post (fun _ => hp) (fun y => absurd y (by omega)), fun _ => ⟨fun _ => z, ?_, ?_, ?_⟩⟩
      · rw [e1]; exact pk_lt (cm_st K k).length 4 (fun _ => hp) (fun y => absurd y (by omega))
      · intro y; rw [h] at y; exact absurd y (by decide)
      · intro y; rw [h] at y; exact absurd y (by decide)
      · intro y; rw [h] at y; exact absurd y (by decide)
    · refine ⟨2, fun post hp => hx 0 post ?_, fun post hp => hy post (fun y => absurd y (by omega)) (fun _ => hp), fun y => absurd y (by decide)⟩
      rw [e1]; exact pk_lt (cm_st K k).length 4 (fun y => absurd y (by omega)) (fun _ => hp)
  · -- ELSE
    have hx : ∀ post : Int32 → Prop, wpX_checkElse (fun r => post r) (o1, o2, o3, o4, o5, o6, nI pv, nI c, sta, ob, orr, os, cl, nI ln, dg, ff, sz, inp, mm, K, Xs, Ys, Zs, bk, bp, bs, be, co, so, rg, tg, mk, ct, ev) → wpX_check post (o1, o2, o3, o4, o5, o6, nI pv, nI c, sta, ob, orr, os, cl, nI ln, dg, ff, sz, inp, mm, K, Xs, Ys, Zs, bk, bp, bs, be, co, so, rg, tg, mk, ct, ev) (nI k) := fun post hp =>
      And.intro hin (nm_r (e' := 12) (by rw [hc]; exact h) (br_f (by decide) (br_f (by decide) (br_f (by decide) (br_t rfl hp)))))
    match hS : cm_st K k with
    | [] =>
      refine ⟨1, fun post hp => hx post ?_, fun post hp => ?_, fun y => absurd y (by decide)⟩
      · rw [hS] at e1
        rw [e1]
        exact br_t rfl hp
      · refine And.intro hin (nm_r (e' := 12) (by rw [hc]; exact h) (cy_innermost (by omega) (fun _ => br_t rfl (br_f (by decide) hp)) (fun j q t e => ?_)))
        rw [hS] at e; simp at e
    | (j, q) :: t =>
      rw [hS] at e1 hB hl4
      obtain ⟨b1, b2, b3, b4, -⟩ := hB
      have hlt : t.length < 4 := by simp at hl4; omega
      have hinx : vp_in (nI t.length) 4 := vp_in_nI hlt (by decide)
      have hcx : (nI t.length).toNatClampNeg = t.length := nI_clamp (by omega)
      obtain ⟨ht, hjq, hqk, hj⟩ := cm_hd hS
      have hjc : (nI j).toNatClampNeg = j := nI_clamp (by omega)
      have hin2 : vp_in (nI j) 24 := vp_in_nI (by omega) (by decide)
      have hY : ∀ post : Int32 → Prop, (K j = 13 → post 1) → (K j = 11 → q = j → post 0) → (K j = 11 → q ≠ j → post 1) → wpY_check post (nI pv, nI sv, nI pc, nI sc, nI c, sta, ff, nI ln, K, Xs, Ys, Zs, inp, mm, ch, lf, tr) (nI k) := by
        intro post p13 p0 p1
        refine And.intro hin (nm_r (e' := 12) (by rw [hc]; exact h) (cy_innermost (by omega) (fun e => ?_) (fun j' q' t' e => ?_)))
        · rw [hS] at e; simp at e
        · rw [hS] at e
          injection e with ea eb
          injection ea with ea ec
          subst ea
          refine br_t rfl (br_t (nI_pos' (by omega)) (And.intro hin2 ?_))
          rcases hj with hj | hj
          · refine br_f (by rw [hjc, hj]; decide) (cy_find (by omega) (by omega) ?_ ?_)
            · intro i hi1 hi2 hki hh _
              refine br_f (nI_pos (by omega)) (p1 hj ?_)
              have := cm_q2' hki hh hi2 (q := q) (by rw [hS]; exact List.mem_cons_self ..)
              omega
            · intro hno
              refine br_t (by decide) (p0 hj ?_)
              by_cases hq : q = j
              · exact hq
              · have := cm_q1 (e := (j, q)) (k := k) (by rw [hS]; exact List.mem_cons_self ..) hq
                exact absurd this (hno q (by omega) hqk)
          · exact br_t (by rw [hjc]; exact hj) (p13 hj)
      have hX : ∀ post : Int32 → Prop, (K j = 11 → q = j → post 0) → (K j = 11 → q ≠ j → post 1) → (K j ≠ 11 → post 1) → wpX_check post (o1, o2, o3, o4, o5, o6, nI pv, nI c, sta, ob, orr, os, cl, nI ln, dg, ff, sz, inp, mm, K, Xs, Ys, Zs, bk, bp, bs, be, co, so, rg, tg, mk, ct, ev) (nI k) := by
        intro post p0 p1 p2
        refine hx post ?_
        rw [e1]
        refine br_f (nI_ne0 (by simp) (by simp; omega)) (nm_r (nI_pred _) (And.intro hinx ?_))
        by_cases hj1 : K j = 11
        · refine br_t (by rw [hcx, b1]; exact hj1) (And.intro hinx ?_)
          rw [hcx, b4]
          by_cases hq : q = j
          · exact br_t (if_pos hq) (p0 hj1 hq)
          · exact br_f (by rw [if_neg hq]; decide) (p1 hj1 hq)
        · exact br_f (by rw [hcx, b1]; exact hj1) (p2 hj1)
      rcases hj with hj | hj
      · by_cases hq : q = j
        · refine ⟨0, fun post hp => hX post (fun _ _ => hp) (fun _ y => absurd hq y) (fun y => absurd hj y), fun post hp => hY post (fun y => by rw [hj] at y; exact absurd y (by decide)) (fun _ _ => hp) (fun _ y => absurd hq y), fun _ => ⟨?_, fun _ => ⟨j, t, by rw [hS, hq], hj⟩, ?_, ?_⟩⟩
          · intro y; rw [h] at y; exact absurd y (by decide)
          · intro y; rw [h] at y; exact absurd y (by decide)
          · intro y; rw [h] at y; exact absurd y (by decide)
        · exact ⟨1, fun post hp => hX post (fun _ y => absurd y hq) (fun _ _ => hp) (fun _ => hp), fun post hp => hY post (fun _ => hp) (fun _ y => absurd y hq) (fun _ _ => hp), fun y => absurd y (by decide)⟩
      · have hj1 : K j ≠ 11 := by rw [hj]; decide
        exact ⟨1, fun post hp => hX post (fun y => absurd y hj1) (fun y => absurd y hj1) (fun _ => hp), fun post hp => hY post (fun _ => hp) (fun y => absurd y hj1) (fun y => absurd y hj1), fun y => absurd y (by decide)⟩
  · -- REPEAT
    have hx : ∀ post : Int32 → Prop, wpX_checkRepeat (fun r => post r) (o1, o2, o3, o4, o5, o6, nI pv, nI c, sta, ob, orr, os, cl, nI ln, dg, ff, sz, inp, mm, K, Xs, Ys, Zs, bk, bp, bs, be, co, so, rg, tg, mk, ct, ev) (nI k) → wpX_check post (o1, o2, o3, o4, o5, o6, nI pv, nI c, sta, ob, orr, os, cl, nI ln, dg, ff, sz, inp, mm, K, Xs, Ys, Zs, bk, bp, bs, be, co, so, rg, tg, mk, ct, ev) (nI k) := fun post hp =>
      And.intro hin (nm_r (e' := 13) (by rw [hc]; exact h) (br_f (by decide) (br_f (by decide) (br_f (by decide) (br_f (by decide) (br_t rfl hp))))))
    have hX : ∀ post : Int32 → Prop, (4 ≤ (cm_st K k).length → post 2) → ((cm_st K k).length < 4 → 2 ≤ cm_cp (cm_isK K 13) (cm_st K k) → post 2) → ((cm_st K k).length < 4 → cm_cp (cm_isK K 13) (cm_st K k) < 2 → Xs k < nI pv → post 0) → ((cm_st K k).length < 4 → cm_cp (cm_isK K 13) (cm_st K k) < 2 → ¬ Xs k < nI pv → post 3) → wpX_check post (o1, o2, o3, o4, o5, o6, nI pv, nI c, sta, ob, orr, os, cl, nI ln, dg, ff, sz, inp, mm, K, Xs, Ys, Zs, bk, bp, bs, be, co, so, rg, tg, mk, ct, ev) (nI k) := by
      intro post p1 p2 p3 p4
      refine hx post ?_
      rw [e1, e2]
      refine pk_le 4 (cm_st K k).length p1 (fun z => ?_)
      refine pk_lt (cm_cp (cm_isK K 13) (cm_st K k)) 2 (fun y => And.intro hin (cx_isSecret ?_ ?_)) (fun y => p2 z y)
      · try rw [hc]
        exact fun hxs => br_t rfl (p3 z y hxs)
      · try rw [hc]
        exact fun hxs => br_f (by decide) (p4 z y hxs)
    have hY : ∀ post : Int32 → Prop, (4 ≤ (cm_st K k).length → post 2) → ((cm_st K k).length < 4 → 2 ≤ cm_cp (cm_isK K 13) (cm_st K k) → post 2) → ((cm_st K k).length < 4 → cm_cp (cm_isK K 13) (cm_st K k) < 2 → Xs k < nI pv → post 0) → ((cm_st K k).length < 4 → cm_cp (cm_isK K 13) (cm_st K k) < 2 → ¬ Xs k < nI pv → post 3) → wpY_check post (nI pv, nI sv, nI pc, nI sc, nI c, sta, ff, nI ln, K, Xs, Ys, Zs, inp, mm, ch, lf, tr) (nI k) := by
      intro post p1 p2 p3 p4
      refine And.intro hin (nm_r (e' := 13) (by rw [hc]; exact h) ?_)
      have key : wY_check_83 post (nI k) 13 (nI pv) (nI sv) (nI pc) (nI sc) (nI c) sta ff (nI ln) K Xs Ys Zs inp mm ch lf tr := by
        refine cy_countOpen (by omega) (cy_countOpen (by omega) ?_)
        rw [nI_add, hcs]
        refine pk_lt (cm_st K k).length 4 (fun z => br_f (by decide) ?_) p1
        refine pk_lt (cm_cp (cm_isK K 13) (cm_st K k)) 2 (fun y => And.intro hin (cy_secret ?_ ?_)) (fun y => p2 z y)
        · try rw [hc]
          exact fun hxs => br_t rfl (p3 z y hxs)
        · try rw [hc]
          exact fun hxs => br_f (by decide) (p4 z y hxs)
      refine cy_innermost (by omega) (fun _ => ?_) (fun j q t _ => ?_)
      · exact br_f (by decide) (br_f (by decide) (br_f (by decide) (br_t rfl key)))
      · exact br_f (by decide) (br_f (by decide) (br_f (by decide) (br_t rfl key)))
    rcases Nat.lt_or_ge (cm_st K k).length 4 with z | z
    · rcases Nat.lt_or_ge (cm_cp (cm_isK K 13) (cm_st K k)) 2 with y | y
      · by_cases hxs : Xs k < nI pv
        · refine ⟨0, fun post hp => hX post (fun w => absurd w (by omega)) (fun _ w => absurd w (by omega)) (fun _ _ _ => hp) (fun _ _ w => absurd hxs w), fun post hp => hY post (fun w => absurd w (by omega)) (fun _ w => absurd w (by omega)) (fun _ _ _ => hp) (fun _ _ w => absurd hxs w), fun _ => ⟨?_, ?_, fun _ => ⟨z, y, hxs⟩, ?_⟩⟩
          · intro y; rw [h] at y; exact absurd y (by decide)
          · intro y; rw [h] at y; exact absurd y (by decide)
          · intro y; rw [h] at y; exact absurd y (by decide)
        · exact ⟨3, fun post hp => hX post (fun w => absurd w (by omega)) (fun _ w => absurd w (by omega)) (fun _ _ w => absurd w hxs) (fun _ _ _ => hp), fun post hp => hY post (fun w => absurd w (by omega)) (fun _ w => absurd w (by omega)) (fun _ _ w => absurd w hxs) (fun _ _ _ => hp), fun w => absurd w (by decide)⟩
      · exact ⟨2, fun post hp => hX post (fun _ => hp) (fun _ _ => hp) (fun _ w _ => absurd w (by omega)) (fun _ w _ => absurd w (by omega)), fun post hp => hY post (fun _ => hp) (fun _ _ => hp) (fun _ w _ => absurd w (by omega)) (fun _ w _ => absurd w (by omega)), fun w => absurd w (by decide)⟩
    · exact ⟨2, fun post hp => hX post (fun _ => hp) (fun _ _ => hp) (fun w _ _ => absurd w (by omega)) (fun w _ _ => absurd w (by omega)), fun post hp => hY post (fun _ => hp) (fun _ _ => hp) (fun w _ _ => absurd w (by omega)) (fun w _ _ => absurd w (by omega)), fun w => absurd w (by decide)⟩
  · -- END
    have hx : ∀ post : Int32 → Prop, ((ob = 0 → post 1) ∧ (¬ ob = 0 → post 0)) → wpX_check post (o1, o2, o3, o4, o5, o6, nI pv, nI c, sta, ob, orr, os, cl, nI ln, dg, ff, sz, inp, mm, K, Xs, Ys, Zs, bk, bp, bs, be, co, so, rg, tg, mk, ct, ev) (nI k) := fun post hp =>
      And.intro hin (nm_r (e' := 14) (by rw [hc]; exact h) (br_f (by decide) (br_f (by decide) (br_f (by decide) (br_f (by decide) (br_f (by decide) (br_t rfl hp)))))))
    match hS : cm_st K k with
    | [] =>
      rw [hS] at e1
      refine ⟨1, fun post hp => hx post (br_t e1 hp), fun post hp => ?_, fun y => absurd y (by decide)⟩
      refine And.intro hin (nm_r (e' := 14) (by rw [hc]; exact h) (cy_innermost (by omega) (fun _ => br_f (by decide) (br_t rfl (br_f (by decide) hp))) (fun j q t e => ?_)))
      rw [hS] at e; simp at e
    | (j, q) :: t =>
      rw [hS] at e1 hl4
      obtain ⟨ht, hjq, hqk, hj⟩ := cm_hd hS
      refine ⟨0, fun post hp => hx post (br_f (by rw [e1]; exact nI_ne0 (by simp) (by omega)) hp), fun post hp => ?_, fun _ => ⟨?_, ?_, ?_, fun _ => by rw [hS]; simp⟩⟩
      · refine And.intro hin (nm_r (e' := 14) (by rw [hc]; exact h) (cy_innermost (by omega) (fun e => ?_) (fun j' q' t' e => ?_)))
        · rw [hS] at e; simp at e
        · have : j' < k := cm_In_lt (cm_Hd_In ⟨q', t', e⟩)
          exact br_f (by decide) (br_t rfl (br_t (nI_pos' (by omega)) hp))
      · intro y; rw [h] at y; exact absurd y (by decide)
      · intro y; rw [h] at y; exact absurd y (by decide)
      · intro y; rw [h] at y; exact absurd y (by decide)
  · -- the flat ones
    have acc : cm_Acc K Xs (nI pv) k := ⟨fun y => absurd y n1, fun y => absurd y n2, fun y => absurd y n3, fun y => absurd y n4⟩
    have hX : ∀ post : Int32 → Prop, wpX_checkFlow (fun r => post r) (o1, o2, o3, o4, o5, o6, nI pv, nI c, sta, ob, orr, os, cl, nI ln, dg, ff, sz, inp, mm, K, Xs, Ys, Zs, bk, bp, bs, be, co, so, rg, tg, mk, ct, ev) (nI k) → wpX_check post (o1, o2, o3, o4, o5, o6, nI pv, nI c, sta, ob, orr, os, cl, nI ln, dg, ff, sz, inp, mm, K, Xs, Ys, Zs, bk, bp, bs, be, co, so, rg, tg, mk, ct, ev) (nI k) := fun post hp =>
      And.intro hin (nm_r (e' := K k) (by rw [hc]) (br_t hf hp))
    by_cases w : cm_W K Xs (nI pv) k
    · by_cases r : cm_R K Ys Zs (nI pv) k
      · exact ⟨4, fun post hp => hX post (cx_flow hk e3 (by omega) (fun y => absurd w y) (fun _ _ => hp) (fun _ y => absurd r y) (fun _ y => absurd r y)), fun post hp => cy_flow hk hv n1 n2 n3 n4 (fun y => absurd w y) (fun _ _ => hp) (fun _ y => absurd r y) (fun _ y => absurd r y), fun _ => acc⟩
      · rcases Nat.eq_zero_or_pos (cm_cp (cm_sec K Xs (nI pv)) (cm_st K k)) with z | z
        · exact ⟨0, fun post hp => hX post (cx_flow hk e3 (by omega) (fun y => absurd w y) (fun _ y => absurd y r) (fun _ _ y => absurd y (by omega)) (fun _ _ _ => hp)), fun post hp => cy_flow hk hv n1 n2 n3 n4 (fun y => absurd w y) (fun _ y => absurd y r) (fun _ _ y => absurd y (by omega)) (fun _ _ _ => hp), fun _ => acc⟩
        · exact ⟨5, fun post hp => hX post (cx_flow hk e3 (by omega) (fun y => absurd w y) (fun _ y => absurd y r) (fun _ _ _ => hp) (fun _ _ y => absurd y (by omega))), fun post hp => cy_flow hk hv n1 n2 n3 n4 (fun y => absurd w y) (fun _ y => absurd y r) (fun _ _ _ => hp) (fun _ _ y => absurd y (by omega)), fun _ => acc⟩
    · exact ⟨0, fun post hp => hX post (cx_flow hk e3 (by omega) (fun _ => hp) (fun y => absurd y w) (fun y => absurd y w) (fun y => absurd y w)), fun post hp => cy_flow hk hv n1 n2 n3 n4 (fun _ => hp) (fun y => absurd y w) (fun y => absurd y w) (fun y => absurd y w), fun _ => acc⟩
end
end
section
theorem cm_cp_c (p : Nat → Bool) (e : Nat × Nat) (t : List (Nat × Nat)) : cm_cp p (e :: t) = cm_cp p t + (if p e.1 = true then 1 else 0) := rfl
theorem cm_isK_t {K : Nat → Int32} {x : Int32} {j : Nat} (h : K j = x) : cm_isK K x j = true := by simp [cm_isK, h]
theorem cm_isK_f {K : Nat → Int32} {x : Int32} {j : Nat} (h : K j ≠ x) : ¬ cm_isK K x j = true := by simp [cm_isK, h]
section
variable {o1 o2 o3 o4 o5 o6 sta ob orr os cl dg ff : Int32} {pv sv pc sc c ln : Nat} {sz inp mm K Xs Ys Zs bk bp bs be co so rg tg mk ct ev ch lf tr : Nat → Int32}
theorem cx_append {post : Int32 → SX → Prop} {p : Nat} {op k r : Int32} (hp : p < 24) (h : post (nI p) (o1, o2, o3, o4, o5, o6, nI pv, nI c, sta, ob, orr, os, nI (p + 1), nI ln, dg, ff, sz, inp, mm, K, Xs, Ys, Zs, bk, bp, bs, be, upd co p op, upd so p k, upd rg p r, upd tg p (nI (p + 1)), mk, ct, ev)) : wpX_append post (o1, o2, o3, o4, o5, o6, nI pv, nI c, sta, ob, orr, os, nI p, nI ln, dg, ff, sz, inp, mm, K, Xs, Ys, Zs, bk, bp, bs, be, co, so, rg, tg, mk, ct, ev) op k r := by
  have hin : vp_in (nI p) 24 := vp_in_nI hp (by decide)
  have hc : (nI p).toNatClampNeg = p := nI_clamp (by omega)
  exact And.intro hin (nm_r (e' := upd co p op) (by rw [hc]) (And.intro hin (nm_r (e' := upd so p k) (by rw [hc]) (And.intro hin (nm_r (e' := upd rg p r) (by rw [hc]) (And.intro hin (nm_r (e' := upd tg p (nI (p + 1))) (by rw [hc, nI_1]) (nm_r (nI_1 p) h))))))))
theorem cx_push {post : SX → Prop} {b : Nat} {kd pt s : Int32} (hb : b < 4) (hs : vp_nar .boolean s = s) (h : post (o1, o2, o3, o4, o5, o6, nI pv, nI c, sta, nI (b + 1), orr, os, cl, nI ln, dg, ff, sz, inp, mm, K, Xs, Ys, Zs, upd bk b kd, upd bp b pt, upd bs b s, upd be b 0, co, so, rg, tg, mk, ct, ev)) : wpX_push post (o1, o2, o3, o4, o5, o6, nI pv, nI c, sta, nI b, orr, os, cl, nI ln, dg, ff, sz, inp, mm, K, Xs, Ys, Zs, bk, bp, bs, be, co, so, rg, tg, mk, ct, ev) kd pt s := by
  have hin : vp_in (nI b) 4 := vp_in_nI hb (by decide)
  have hc : (nI b).toNatClampNeg = b := nI_clamp (by omega)
  exact And.intro hin (nm_r (e' := upd bk b kd) (by rw [hc]) (And.intro hin (nm_r (e' := upd bp b pt) (by rw [hc]) (And.intro hin (nm_r (e' := upd bs b s) (by rw [hc, hs]) (And.intro hin (nm_r (e' := upd be b 0) (by rw [hc]; rfl) (nm_r (nI_1 b) h))))))))
theorem cm_emit_flat {k : Nat} (hk : k < 24) (hf : K k < 11) (n1 : K k ≠ 11) (n2 : K k ≠ 12) (n3 : K k ≠ 13) (n4 : K k ≠ 14) (hI : cm_CI K Xs (nI pv) ob orr os cl bk bp bs be co so rg tg k) : ∃ (ob' orr' os' cl' : Int32) (bk' bp' bs' be' co' so' rg' tg' : Nat → Int32), cm_CI K Xs (nI pv) ob' orr' os' cl' bk' bp' bs' be' co' so' rg' tg' (k + 1) ∧ ∀ post : SX → Prop, post (o1, o2, o3, o4, o5, o6, nI pv, nI c, sta, ob', orr', os', cl', nI ln, dg, ff, sz, inp, mm, K, Xs, Ys, Zs, bk', bp', bs', be', co', so', rg', tg', mk, ct, ev) → wpX_emit post (o1, o2, o3, o4, o5, o6, nI pv, nI c, sta, ob, orr, os, cl, nI ln, dg, ff, sz, inp, mm, K, Xs, Ys, Zs, bk, bp, bs, be, co, so, rg, tg, mk, ct, ev) (nI k) := by
  have hin : vp_in (nI k) 24 := vp_in_nI hk (by decide)
  have hc : (nI k).toNatClampNeg = k := nI_clamp (by omega)
  obtain ⟨e1, e2, e3, e4, hB, hC, hA, hT, hl4, hl2⟩ := hI
  subst e4
  have hem : cm_Em K k := cm_Em_k n4
  have hps : cm_ps K k < 24 := by have := cm_ps_le K k; omega
  refine ⟨ob, orr, os, nI (cm_ps K k + 1), bk, bp, bs, be, upd co (cm_ps K k) (K k), upd so (cm_ps K k) (nI k), upd rg (cm_ps K k) os, upd tg (cm_ps K k) (nI (cm_ps K k + 1)), ?_, fun post hp => ?_⟩
  · unfold cm_CI
    rw [cm_st_flat n1 n2 n3 n4, cm_ps_s hem]
    refine ⟨e1, e2, e3, rfl, hB, cm_Code_s hC hem ?_ ?_, cm_TgA_s hA (Or.inl ⟨n2, n4⟩), cm_TgB_s hT (fun z => absurd z n4) (fun i hi _ hei => pk_un (cm_ps_ne hei hem (by omega))), hl4, hl2⟩
    · unfold cm_opc; rw [if_neg n1, if_neg n2, if_neg n3, if_neg n4]
    · unfold cm_rgc; rw [if_neg n3, if_neg n4]; exact e3
  · refine And.intro hin (nm_r (e' := K k) (by rw [hc]) (br_t hf (And.intro hin ?_)))
    rw [hc]
    exact cx_append hps hp
theorem cm_emit_if {k : Nat} (hk : k < 24) (h : K k = 11) (ha : cm_Acc K Xs (nI pv) k) (hI : cm_CI K Xs (nI pv) ob orr os cl bk bp bs be co so rg tg k) : ∃ (ob' orr' os' cl' : Int32) (bk' bp' bs' be' co' so' rg' tg' : Nat → Int32), cm_CI K Xs (nI pv) ob' orr' os' cl' bk' bp' bs' be' co' so' rg' tg' (k + 1) ∧ ∀ post : SX → Prop, post (o1, o2, o3, o4, o5, o6, nI pv, nI c, sta, ob', orr', os', cl', nI ln, dg, ff, sz, inp, mm, K, Xs, Ys, Zs, bk', bp', bs', be', co', so', rg', tg', mk, ct, ev) → wpX_emit post (o1, o2, o3, o4, o5, o6, nI pv, nI c, sta, ob, orr, os, cl, nI ln, dg, ff, sz, inp, mm, K, Xs, Ys, Zs, bk, bp, bs, be, co, so, rg, tg, mk, ct, ev) (nI k) := by
  have hin : vp_in (nI k) 24 := vp_in_nI hk (by decide)
  have hc : (nI k).toNatClampNeg = k := nI_clamp (by omega)
  obtain ⟨e1, e2, e3, e4, hB, hC, hA, hT, hl4, hl2⟩ := hI
  subst e4
  subst e1
  have hb := ha.1 h
  have n4 : K k ≠ 14 := by rw [h]; decide
  have n2 : K k ≠ 12 := by rw [h]; decide
  have n3 : K k ≠ 13 := by rw [h]; decide
  have hem : cm_Em K k := cm_Em_k n4
  have hps : cm_ps K k < 24 := by have := cm_ps_le K k; omega
  by_cases hx : Xs k < nI pv
  · have hs : cm_sec K Xs (nI pv) k = false := cm_sec_f2 hx
    refine ⟨nI ((cm_st K k).length + 1), orr, os, nI (cm_ps K k + 1), upd bk (cm_st K k).length 11, upd bp (cm_st K k).length (nI (cm_ps K k)), upd bs (cm_st K k).length 0, upd be (cm_st K k).length 0, upd co (cm_ps K k) 13, upd so (cm_ps K k) (nI k), upd rg (cm_ps K k) os, upd tg (cm_ps K k) (nI (cm_ps K k + 1)), ?_, fun post hp => ?_⟩
    · unfold cm_CI
      rw [cm_st_push (Or.inl h), cm_ps_s hem, cm_cp_c, cm_cp_c, if_neg (cm_isK_f n3), if_neg (by rw [hs]; decide)]
      refine ⟨rfl, e2, e3, rfl, ⟨pk_us.trans h.symm, fun _ => pk_us, pk_us.trans (by rw [hs]; rfl), pk_us.trans (by rw [if_pos rfl]), cm_Blk_fr (fun i hi => ⟨pk_un (by omega), pk_un (by omega), pk_un (by omega), pk_un (by omega)⟩) hB⟩, cm_Code_s hC hem ?_ ?_, cm_TgA_s hA (Or.inl ⟨n2, n4⟩), cm_TgB_s hT (fun z => absurd z n4) (fun i hi _ hei => pk_un (cm_ps_ne hei hem (by omega))), by simp; omega, hl2⟩
      · unfold cm_opc; rw [if_pos h, if_neg (by rw [hs]; decide)]
      · unfold cm_rgc; rw [if_neg n3, if_neg n4]; exact e3
    · refine And.intro hin (nm_r (e' := 11) (by rw [hc]; exact h) (br_f (by decide) (br_f (by decide) (br_t rfl ?_))))
      refine And.intro hin (cx_isSecret (fun _ => ?_) (fun z => absurd (by rw [hc]; exact hx) z))
      exact br_t rfl (cx_append hps (cx_push hb rfl (br_t rfl hp)))
  · have hs : cm_sec K Xs (nI pv) k = true := cm_sec_t h hx
    refine ⟨nI ((cm_st K k).length + 1), orr, os + 1, nI (cm_ps K k + 1), upd bk (cm_st K k).length 11, upd bp (cm_st K k).length (nI (cm_ps K k)), upd bs (cm_st K k).length 1, upd be (cm_st K k).length 0, upd co (cm_ps K k) 11, upd so (cm_ps K k) (nI k), upd rg (cm_ps K k) os, upd tg (cm_ps K k) (nI (cm_ps K k + 1)), ?_, fun post hp => ?_⟩
    · unfold cm_CI
      rw [cm_st_push (Or.inl h), cm_ps_s hem, cm_cp_c, cm_cp_c, if_neg (cm_isK_f n3), if_pos hs]
      refine ⟨rfl, e2, by rw [e3, nI_1], rfl, ⟨pk_us.trans h.symm, fun _ => pk_us, pk_us.trans (by rw [hs]; rfl), pk_us.trans (by rw [if_pos rfl]), cm_Blk_fr (fun i hi => ⟨pk_un (by omega), pk_un (by omega), pk_un (by omega), pk_un (by omega)⟩) hB⟩, cm_Code_s hC hem ?_ ?_, cm_TgA_s hA (Or.inl ⟨n2, n4⟩), cm_TgB_s hT (fun z => absurd z n4) (fun i hi _ hei => pk_un (cm_ps_ne hei hem (by omega))), by simp; omega, hl2⟩
      · unfold cm_opc; rw [if_pos h, if_pos hs]
      · unfold cm_rgc; rw [if_neg n3, if_neg n4]; exact e3
    · refine And.intro hin (nm_r (e' := 11) (by rw [hc]; exact h) (br_f (by decide) (br_f (by decide) (br_t rfl ?_))))
      refine And.intro hin (cx_isSecret (fun z => absurd z (by rw [hc]; exact hx)) (fun _ => ?_))
      exact br_f (by decide) (cx_append hps (cx_push hb rfl (br_f (by decide) (nm_e hp))))
theorem cm_emit_rep {k : Nat} (hk : k < 24) (h : K k = 13) (ha : cm_Acc K Xs (nI pv) k) (hI : cm_CI K Xs (nI pv) ob orr os cl bk bp bs be co so rg tg k) : ∃ (ob' orr' os' cl' : Int32) (bk' bp' bs' be' co' so' rg' tg' : Nat → Int32), cm_CI K Xs (nI pv) ob' orr' os' cl' bk' bp' bs' be' co' so' rg' tg' (k + 1) ∧ ∀ post : SX → Prop, post (o1, o2, o3, o4, o5, o6, nI pv, nI c, sta, ob', orr', os', cl', nI ln, dg, ff, sz, inp, mm, K, Xs, Ys, Zs, bk', bp', bs', be', co', so', rg', tg', mk, ct, ev) → wpX_emit post (o1, o2, o3, o4, o5, o6, nI pv, nI c, sta, ob, orr, os, cl, nI ln, dg, ff, sz, inp, mm, K, Xs, Ys, Zs, bk, bp, bs, be, co, so, rg, tg, mk, ct, ev) (nI k) := by
  have hin : vp_in (nI k) 24 := vp_in_nI hk (by decide)
  have hc : (nI k).toNatClampNeg = k := nI_clamp (by omega)
  obtain ⟨e1, e2, e3, e4, hB, hC, hA, hT, hl4, hl2⟩ := hI
  subst e4
  subst e1
  obtain ⟨hb, hb2, -⟩ := ha.2.2.1 h
  have n4 : K k ≠ 14 := by rw [h]; decide
  have n2 : K k ≠ 12 := by rw [h]; decide
  have n1 : K k ≠ 11 := by rw [h]; decide
  have hem : cm_Em K k := cm_Em_k n4
  have hps : cm_ps K k < 24 := by have := cm_ps_le K k; omega
  have hs : cm_sec K Xs (nI pv) k = false := cm_sec_f1 n1
  refine ⟨nI ((cm_st K k).length + 1), orr + 1, os, nI (cm_ps K k + 1), upd bk (cm_st K k).length 13, upd bp (cm_st K k).length (nI (cm_ps K k)), upd bs (cm_st K k).length 0, upd be (cm_st K k).length 0, upd co (cm_ps K k) 15, upd so (cm_ps K k) (nI k), upd rg (cm_ps K k) orr, upd tg (cm_ps K k) (nI (cm_ps K k + 1)), ?_, fun post hp => ?_⟩
  · unfold cm_CI
    rw [cm_st_push (Or.inr h), cm_ps_s hem, cm_cp_c, cm_cp_c, if_pos (cm_isK_t h), if_neg (by rw [hs]; decide)]
    refine ⟨rfl, by rw [e2, nI_1], e3, rfl, ⟨pk_us.trans h.symm, fun _ => pk_us, pk_us.trans (by rw [hs]; rfl), pk_us.trans (by rw [if_pos rfl]), cm_Blk_fr (fun i hi => ⟨pk_un (by omega), pk_un (by omega), pk_un (by omega), pk_un (by omega)⟩) hB⟩, cm_Code_s hC hem ?_ ?_, cm_TgA_s hA (Or.inl ⟨n2, n4⟩), cm_TgB_s hT (fun z => absurd z n4) (fun i hi _ hei => pk_un (cm_ps_ne hei hem (by omega))), by simp; omega, by omega⟩
    · unfold cm_opc; rw [if_neg n1, if_neg n2, if_pos h]
    · unfold cm_rgc; rw [if_pos h]; exact e2
  · refine And.intro hin (nm_r (e' := 13) (by rw [hc]; exact h) (br_f (by decide) (br_f (by decide) (br_f (by decide) (br_f (by decide) (br_t rfl ?_))))))
    unfold wpX_emitRepeat
    refine cx_append hps ?_
    exact cx_push hb rfl (nm_e hp)
theorem cm_emit_else {k : Nat} (hk : k < 24) (h : K k = 12) (ha : cm_Acc K Xs (nI pv) k) (hI : cm_CI K Xs (nI pv) ob orr os cl bk bp bs be co so rg tg k) : ∃ (ob' orr' os' cl' : Int32) (bk' bp' bs' be' co' so' rg' tg' : Nat → Int32), cm_CI K Xs (nI pv) ob' orr' os' cl' bk' bp' bs' be' co' so' rg' tg' (k + 1) ∧ ∀ post : SX → Prop, post (o1, o2, o3, o4, o5, o6, nI pv, nI c, sta, ob', orr', os', cl', nI ln, dg, ff, sz, inp, mm, K, Xs, Ys, Zs, bk', bp', bs', be', co', so', rg', tg', mk, ct, ev) → wpX_emit post (o1, o2, o3, o4, o5, o6, nI pv, nI c, sta, ob, orr, os, cl, nI ln, dg, ff, sz, inp, mm, K, Xs, Ys, Zs, bk, bp, bs, be, co, so, rg, tg, mk, ct, ev) (nI k) := by
  have hin : vp_in (nI k) 24 := vp_in_nI hk (by decide)
  have hc : (nI k).toNatClampNeg = k := nI_clamp (by omega)
  obtain ⟨e1, e2, e3, e4, hB, hC, hA, hT, hl4, hl2⟩ := hI
  subst e4
  obtain ⟨j, t, hS, hj⟩ := ha.2.1 h
  have n4 : K k ≠ 14 := by rw [h]; decide
  have n1 : K k ≠ 11 := by rw [h]; decide
  have n3 : K k ≠ 13 := by rw [h]; decide
  have hem : cm_Em K k := cm_Em_k n4
  have hemj : cm_Em K j := cm_Em_k (by rw [hj]; decide)
  have hps : cm_ps K k < 24 := by have := cm_ps_le K k; omega
  obtain ⟨ht, hjq, hjk, -⟩ := cm_hd hS
  have hpj : cm_ps K j < cm_ps K k := cm_ps_lt hemj hjk
  have hS' : cm_st K (k + 1) = (j, k) :: t := by rw [cm_st_else h, hS]; rfl
  have ehs : cm_hs (cm_sec K Xs (nI pv)) (cm_st K k) = cm_sec K Xs (nI pv) j := by rw [hS]; rfl
  rw [hS] at e1 hB hl4
  obtain ⟨b1, b2, b3, b4, hB⟩ := hB
  have hlt : t.length < 4 := by simp at hl4; omega
  have hinx : vp_in (nI t.length) 4 := vp_in_nI hlt (by decide)
  have hcx : (nI t.length).toNatClampNeg = t.length := nI_clamp (by omega)
  have hr : os = nI (cm_rgc K (cm_sec K Xs (nI pv)) k) := by unfold cm_rgc; rw [if_neg n3, if_neg n4]; exact e3
  by_cases hs : cm_sec K Xs (nI pv) j = true
  · refine ⟨ob, orr, os, nI (cm_ps K k + 1), bk, bp, bs, upd be t.length 1, upd co (cm_ps K k) 12, upd so (cm_ps K k) (nI k), upd rg (cm_ps K k) os, upd tg (cm_ps K k) (nI (cm_ps K k + 1)), ?_, fun post hp => ?_⟩
    · unfold cm_CI
      rw [hS', cm_ps_s hem]
      rw [hS] at e2 e3 hl2
      refine ⟨e1, e2, e3, rfl, ⟨b1, fun z => ?_, b3, pk_us.trans (if_neg (by show k ≠ j; omega)).symm, cm_Blk_fr (fun i hi => ⟨rfl, rfl, rfl, pk_un (by omega)⟩) hB⟩, cm_Code_s hC hem ?_ hr, cm_TgA_s hA (Or.inr (ehs.trans hs)), cm_TgB_s hT (fun z => absurd z n4) (fun i hi _ hei => pk_un (cm_ps_ne hei hem (by omega))), hl4, hl2⟩
      · have z : cm_sec K Xs (nI pv) j = false := z
        rw [hs] at z; exact absurd z (by decide)
      · unfold cm_opc; rw [if_neg n1, if_pos h, if_pos (ehs.trans hs)]
    · refine And.intro hin (nm_r (e' := 12) (by rw [hc]; exact h) (br_f (by decide) (br_f (by decide) (br_f (by decide) (br_t rfl ?_)))))
      rw [e1] at hp ⊢
      refine nm_r (nI_pred _) (And.intro hinx (nm_r (e' := upd be t.length 1) (by rw [hcx]; rfl) (And.intro hinx (br_f ?_ (cx_append hps hp)))))
      rw [hcx, b3]
      show ¬ (if cm_sec K Xs (nI pv) j = true then (1 : Int32) else 0) = 0
      rw [if_pos hs]; decide
  · have hs0 : cm_sec K Xs (nI pv) j = false := by simpa using hs
    refine ⟨ob, orr, os, nI (cm_ps K k + 1), bk, upd bp t.length (nI (cm_ps K k)), bs, upd be t.length 1, upd co (cm_ps K k) 14, upd so (cm_ps K k) (nI k), upd rg (cm_ps K k) os, upd (upd tg (cm_ps K k) (nI (cm_ps K k + 1))) (cm_ps K j) (nI (cm_ps K k + 1)), ?_, fun post hp => ?_⟩
    · unfold cm_CI
      rw [hS', cm_ps_s hem]
      have e2' := e2
      have e3' := e3
      have hl2' := hl2
      rw [hS] at e2' e3' hl2'
      refine ⟨e1, e2', e3', rfl, ⟨b1, fun z => pk_us, b3, pk_us.trans (if_neg (by show k ≠ j; omega)).symm, cm_Blk_fr (fun i hi => ⟨rfl, pk_un (by omega), rfl, pk_un (by omega)⟩) hB⟩, cm_Code_s hC hem ?_ hr, cm_TgA_w hA hS ?_ ?_, cm_TgB_s hT (fun z => absurd z n4) ?_, hl4, hl2'⟩
      · unfold cm_opc; rw [if_neg n1, if_pos h, if_neg (by rw [ehs]; exact hs)]
      · rw [cm_ps_s hem]; exact pk_us
      · intro p hp1 hp2
        rw [pk_un hp2, pk_un (by omega)]
      · intro i hi hK hei
        rw [pk_un (cm_ps_ne hei hemj (by rintro rfl; rw [hj] at hK; exact absurd hK (by decide))), pk_un (cm_ps_ne hei hem (by omega))]
    · refine And.intro hin (nm_r (e' := 12) (by rw [hc]; exact h) (br_f (by decide) (br_f (by decide) (br_f (by decide) (br_t rfl ?_)))))
      rw [e1] at hp ⊢
      have hbp : bp (nI t.length).toNatClampNeg = nI (cm_ps K j) := by rw [hcx]; exact b2 hs0
      have hcj : (nI (cm_ps K j)).toNatClampNeg = cm_ps K j := nI_clamp (by omega)
      refine nm_r (nI_pred _) (And.intro hinx (nm_r (e' := upd be t.length 1) (by rw [hcx]; rfl) (And.intro hinx (br_t ?_ (cx_append hps (And.intro hinx (And.intro ?_ (nm_r (e' := upd (upd tg (cm_ps K k) (nI (cm_ps K k + 1))) (cm_ps K j) (nI (cm_ps K k + 1))) ?_ (And.intro hinx (nm_r (e' := upd bp t.length (nI (cm_ps K k))) ?_ hp))))))))))
      · rw [hcx, b3]
        show (if cm_sec K Xs (nI pv) j = true then (1 : Int32) else 0) = 0
        rw [if_neg hs]
      · rw [hbp]; exact vp_in_nI (by omega) (by decide)
      · rw [hbp, hcj]
      · rw [hcx]
theorem cm_emit_end {k : Nat} (hk : k < 24) (h : K k = 14) (ha : cm_Acc K Xs (nI pv) k) (hAll : ∀ i, i < k → cm_Acc K Xs (nI pv) i) (hI : cm_CI K Xs (nI pv) ob orr os cl bk bp bs be co so rg tg k) : ∃ (ob' orr' os' cl' : Int32) (bk' bp' bs' be' co' so' rg' tg' : Nat → Int32), cm_CI K Xs (nI pv) ob' orr' os' cl' bk' bp' bs' be' co' so' rg' tg' (k + 1) ∧ ∀ post : SX → Prop, post (o1, o2, o3, o4, o5, o6, nI pv, nI c, sta, ob', orr', os', cl', nI ln, dg, ff, sz, inp, mm, K, Xs, Ys, Zs, bk', bp', bs', be', co', so', rg', tg', mk, ct, ev) → wpX_emit post (o1, o2, o3, o4, o5, o6, nI pv, nI c, sta, ob, orr, os, cl, nI ln, dg, ff, sz, inp, mm, K, Xs, Ys, Zs, bk, bp, bs, be, co, so, rg, tg, mk, ct, ev) (nI k) := by
  have hin : vp_in (nI k) 24 := vp_in_nI hk (by decide)
  have hc : (nI k).toNatClampNeg = k := nI_clamp (by omega)
  obtain ⟨e1, e2, e3, e4, hB, hC, hA, hT, hl4, hl2⟩ := hI
  subst e4
  match hS : cm_st K k with
  | [] => exact absurd hS (ha.2.2.2 h)
  | (j, q) :: t =>
    have n1 : K k ≠ 11 := by rw [h]; decide
    have n2 : K k ≠ 12 := by rw [h]; decide
    have n3 : K k ≠ 13 := by rw [h]; decide
    have hps : cm_ps K k < 24 := by have := cm_ps_le K k; omega
    have hm : (j, q) ∈ cm_st K k := by rw [hS]; exact List.mem_cons_self ..
    have hemq : cm_Em K q := cm_Em_k (cm_q_k hm)
    obtain ⟨ht, hjq, hqk, hj⟩ := cm_hd hS
    have hpq : cm_ps K q < cm_ps K k := cm_ps_lt hemq hqk
    have hS' : cm_st K (k + 1) = t := by rw [cm_st_end h, hS]; rfl
    have ehs : cm_hs (cm_sec K Xs (nI pv)) (cm_st K k) = cm_sec K Xs (nI pv) j := by rw [hS]; rfl
    have etk : cm_tk K (cm_st K k) = K j := by rw [hS]; rfl
    rw [hS] at e1 hB hl4
    obtain ⟨b1, b2, b3, b4, hB⟩ := hB
    have b1 : bk t.length = K j := b1
    have b2 : cm_sec K Xs (nI pv) j = false → bp t.length = nI (cm_ps K q) := b2
    have b3 : bs t.length = (if cm_sec K Xs (nI pv) j = true then 1 else 0) := b3
    have hlt : t.length < 4 := by simp at hl4; omega
    have hinx : vp_in (nI t.length) 4 := vp_in_nI hlt (by decide)
    have hcx : (nI t.length).toNatClampNeg = t.length := nI_clamp (by omega)
    have hcq : (nI (cm_ps K q)).toNatClampNeg = cm_ps K q := nI_clamp (by omega)
    have hck : (nI (cm_ps K k)).toNatClampNeg = cm_ps K k := nI_clamp (by omega)
    have hinq : vp_in (nI (cm_ps K q)) 24 := vp_in_nI (by omega) (by decide)
    have hink : vp_in (nI (cm_ps K k)) 24 := vp_in_nI (by omega) (by decide)
    have go : ∀ post : SX → Prop, wpX_emitEnd (fun u => post u) (o1, o2, o3, o4, o5, o6, nI pv, nI c, sta, ob, orr, os, nI (cm_ps K k), nI ln, dg, ff, sz, inp, mm, K, Xs, Ys, Zs, bk, bp, bs, be, co, so, rg, tg, mk, ct, ev) (nI k) → wpX_emit post (o1, o2, o3, o4, o5, o6, nI pv, nI c, sta, ob, orr, os, nI (cm_ps K k), nI ln, dg, ff, sz, inp, mm, K, Xs, Ys, Zs, bk, bp, bs, be, co, so, rg, tg, mk, ct, ev) (nI k) := fun post hp =>
      And.intro hin (nm_r (e' := 14) (by rw [hc]; exact h) (br_f (by decide) (br_f (by decide) (br_f (by decide) (br_f (by decide) (br_f (by decide) (br_t rfl hp)))))))
    rcases hj with hj | hj
    · have hnem : ¬ cm_Em K k := fun z => z ⟨h, etk.trans hj⟩
      have ep : cm_ps K (k + 1) = cm_ps K k := cm_ps_n h (etk.trans hj)
      have hnt : K k = 14 → cm_tk K (cm_st K k) ≠ 13 := fun _ => by rw [etk, hj]; decide
      have hj3 : ¬ cm_isK K 13 j = true := cm_isK_f (by rw [hj]; decide)
      rw [hS, cm_cp_c, if_neg hj3] at e2 hl2
      by_cases hs : cm_sec K Xs (nI pv) j = true
      · rw [hS, cm_cp_c, if_pos hs] at e3
        refine ⟨nI t.length, orr, nI (cm_cp (cm_sec K Xs (nI pv)) t), nI (cm_ps K k), bk, bp, bs, be, co, so, rg, tg, ?_, fun post hp => go post ?_⟩
        · unfold cm_CI
          rw [hS', ep]
          exact ⟨rfl, e2, rfl, rfl, hB, cm_Code_n hC hnem, cm_TgA_n hA (ehs.trans hs), cm_TgB_s hT hnt (fun _ _ _ _ => rfl), by omega, hl2⟩
        · rw [e1, e3]
          refine nm_r (nI_pred _) (And.intro hinx (nm_e (And.intro hinx (br_f ?_ (And.intro hinx (br_f ?_ (nm_r (nI_pred _) hp)))))))
          · rw [hcx, b1, hj]; decide
          · rw [hcx, b3, if_pos hs]; decide
      · have hs0 : cm_sec K Xs (nI pv) j = false := by simpa using hs
        have hbp : bp (nI t.length).toNatClampNeg = nI (cm_ps K q) := by rw [hcx]; exact b2 hs0
        rw [hS, cm_cp_c, if_neg hs] at e3
        refine ⟨nI t.length, orr, os, nI (cm_ps K k), bk, bp, bs, be, co, so, rg, upd tg (cm_ps K q) (nI (cm_ps K k)), ?_, fun post hp => go post ?_⟩
        · unfold cm_CI
          rw [hS', ep]
          refine ⟨rfl, e2, e3, rfl, hB, cm_Code_n hC hnem, cm_TgA_w hA hS ?_ (fun p _ hp => pk_un hp), cm_TgB_s hT hnt ?_, by omega, hl2⟩
          · rw [ep]; exact pk_us
          · intro i hi hK hei
            exact pk_un (cm_ps_ne hei hemq (by rintro rfl; exact absurd hK (cm_q_k hm)))
        · rw [e1]
          refine nm_r (nI_pred _) (And.intro hinx (nm_r (e' := nI (cm_ps K q)) hbp (And.intro hinx (br_f ?_ (And.intro hinx (br_t ?_ (And.intro hinq (nm_r (e' := upd tg (cm_ps K q) (nI (cm_ps K k))) (by rw [hcq]) hp))))))))
          · rw [hcx, b1, hj]; decide
          · rw [hcx, b3, if_neg hs]
    · have hem : cm_Em K k := cm_Em_r hS hj
      have hs0 : cm_sec K Xs (nI pv) j = false := cm_sec_f1 (by rw [hj]; decide)
      have hbp : bp (nI t.length).toNatClampNeg = nI (cm_ps K q) := by rw [hcx]; exact b2 hs0
      have hqj : q = j := cm_rep_q hAll hm hj
      rw [hS, cm_cp_c, if_pos (cm_isK_t hj)] at e2 hl2
      rw [hS, cm_cp_c, if_neg (by rw [hs0]; decide)] at e3
      refine ⟨nI t.length, nI (cm_cp (cm_isK K 13) t), os, nI (cm_ps K k + 1), bk, bp, bs, be, upd co (cm_ps K k) 16, upd so (cm_ps K k) (nI k), upd rg (cm_ps K k) (nI (cm_cp (cm_isK K 13) t)), upd (upd (upd tg (cm_ps K k) (nI (cm_ps K k + 1))) (cm_ps K k) (nI (cm_ps K q + 1))) (cm_ps K q) (nI (cm_ps K k + 1)), ?_, fun post hp => go post ?_⟩
      · unfold cm_CI
        rw [hS', cm_ps_s hem]
        refine ⟨rfl, rfl, e3, rfl, hB, cm_Code_s hC hem ?_ ?_, cm_TgA_w hA hS ?_ ?_, cm_TgB_w hT hS ?_ ?_, by omega, by omega⟩
        · unfold cm_opc; rw [if_neg n1, if_neg n2, if_neg n3, if_pos h]
        · unfold cm_rgc; rw [if_neg n3, if_pos h, hS]; rfl
        · rw [cm_ps_s hem]; exact pk_us
        · intro p hp1 hp2
          rw [pk_un hp2, pk_un (by omega), pk_un (by omega)]
        · rw [pk_un (by omega), pk_us, hqj]
        · intro i hi hK hei
          have a := cm_ps_ne hei hem (by omega)
          rw [pk_un (cm_ps_ne hei hemq (by rintro rfl; exact absurd hK (cm_q_k hm))), pk_un a, pk_un a]
      · rw [e1, e2]
        refine nm_r (nI_pred _) (And.intro hinx (nm_r (e' := nI (cm_ps K q)) hbp (And.intro hinx (br_t ?_ (nm_r (nI_pred _) (cx_append hps (And.intro hink (nm_r (e' := upd (upd tg (cm_ps K k) (nI (cm_ps K k + 1))) (cm_ps K k) (nI (cm_ps K q + 1))) ?_ (And.intro hinq (nm_r (e' := upd (upd (upd tg (cm_ps K k) (nI (cm_ps K k + 1))) (cm_ps K k) (nI (cm_ps K q + 1))) (cm_ps K q) (nI (cm_ps K k + 1))) (by rw [hcq]) hp))))))))))
        · rw [hcx, b1, hj]
        · rw [hck, nI_1]
theorem cm_emit {k : Nat} (hk : k < 24) (hv : cm_Vd pv sv K Xs Ys Zs k) (ha : cm_Acc K Xs (nI pv) k) (hAll : ∀ i, i < k → cm_Acc K Xs (nI pv) i) (hI : cm_CI K Xs (nI pv) ob orr os cl bk bp bs be co so rg tg k) : ∃ (ob' orr' os' cl' : Int32) (bk' bp' bs' be' co' so' rg' tg' : Nat → Int32), cm_CI K Xs (nI pv) ob' orr' os' cl' bk' bp' bs' be' co' so' rg' tg' (k + 1) ∧ ∀ post : SX → Prop, post (o1, o2, o3, o4, o5, o6, nI pv, nI c, sta, ob', orr', os', cl', nI ln, dg, ff, sz, inp, mm, K, Xs, Ys, Zs, bk', bp', bs', be', co', so', rg', tg', mk, ct, ev) → wpX_emit post (o1, o2, o3, o4, o5, o6, nI pv, nI c, sta, ob, orr, os, cl, nI ln, dg, ff, sz, inp, mm, K, Xs, Ys, Zs, bk, bp, bs, be, co, so, rg, tg, mk, ct, ev) (nI k) := by
  rcases cm_Vd_k hv with h | h | h | h | ⟨hf, hf', n1, n2, n3, n4⟩
  · exact cm_emit_if hk h ha hI
  · exact cm_emit_else hk h ha hI
  · exact cm_emit_rep hk h ha hI
  · exact cm_emit_end hk h ha hAll hI
  · exact cm_emit_flat hk hf n1 n2 n3 n4 hI
end
end
section
/-- what a good compilation leaves -/
def cm_Good (K Xs : Nat → Int32) (P : Int32) (cl : Int32) (co so rg tg : Nat → Int32) (c : Nat) : Prop :=
  cl = nI (cm_ps K c) ∧ cm_Code K (cm_sec K Xs P) co so rg c ∧ cm_TgA K (cm_sec K Xs P) tg c ∧ cm_TgB K tg c ∧ (∀ i, i < c → cm_Acc K Xs P i ∧ (cm_st K i).length ≤ 4 ∧ cm_cp (cm_isK K 13) (cm_st K i) ≤ 2) ∧ cm_st K c = []
section
variable {o1 o2 o3 o4 o5 o6 sta ob orr os cl dg ff : Int32} {pv sv pc sc c ln : Nat} {sz inp mm K Xs Ys Zs bk bp bs be co so rg tg mk ct ev ch lf tr : Nat → Int32}
theorem cm_comp (hc24 : c ≤ 24) (hv : ∀ i, i < c → cm_Vd pv sv K Xs Ys Zs i) : ∀ (d k : Nat) (ob orr os cl : Int32) (bk bp bs be co so rg tg : Nat → Int32), k + d = c → (∀ i, i < k → cm_Acc K Xs (nI pv) i ∧ (cm_st K i).length ≤ 4 ∧ cm_cp (cm_isK K 13) (cm_st K i) ≤ 2) → cm_CI K Xs (nI pv) ob orr os cl bk bp bs be co so rg tg k →
    ∃ (r sta' ob' orr' os' cl' : Int32) (bk' bp' bs' be' co' so' rg' tg' : Nat → Int32), (sta' = -1 → cm_Good K Xs (nI pv) cl' co' so' rg' tg' c) ∧ (∀ post : Int32 → SX → Prop, post r (o1, o2, o3, o4, o5, o6, nI pv, nI c, sta', ob', orr', os', cl', nI ln, dg, ff, sz, inp, mm, K, Xs, Ys, Zs, bk', bp', bs', be', co', so', rg', tg', mk, ct, ev) → wX_compile_22 post (d + 1) (nI k) o1 o2 o3 o4 o5 o6 (nI pv) (nI c) sta ob orr os cl (nI ln) dg ff sz inp mm K Xs Ys Zs bk bp bs be co so rg tg mk ct ev) ∧ (∀ post : Int32 → SY → Prop, post r (nI pv, nI sv, nI pc, nI sc, nI c, sta', ff, nI ln, K, Xs, Ys, Zs, inp, mm, ch, lf, tr) → wY_compile_2 post (nI pv) (nI sv) (nI pc) (nI sc) (nI c) sta ff (nI ln) K Xs Ys Zs inp mm ch lf tr (d + 1) (nI k)) := by
  intro d
  induction d with
  | zero =>
    intro k ob orr os cl bk bp bs be co so rg tg hkd hA hI
    have hk : k = c := by omega
    subst hk
    obtain ⟨e1, e2, e3, e4, hB, hC, hTA, hTB, hl4, hl2⟩ := hI
    match hS : cm_st K k with
    | [] =>
      refine ⟨0, -1, ob, orr, os, cl, bk, bp, bs, be, co, so, rg, tg, fun _ => ⟨e4, hC, hTA, hTB, hA, hS⟩, fun post hp => ?_, fun post hp => ?_⟩
      · rw [hS] at e1
        exact br_t (nI_le (Nat.le_refl _) (by omega)) (br_t (by rw [e1]; decide) hp)
      · refine br_t (nI_le (Nat.le_refl _) (by omega)) (cy_innermost hc24 (fun _ => br_t (by decide) hp) (fun j q t e => ?_))
        rw [hS] at e; simp at e
    | (j, q) :: t =>
      have hm1 : ¬ nI k = -1 := fun z => cm_m1ne (by omega) z.symm
      refine ⟨6, nI k, ob, orr, os, cl, bk, bp, bs, be, co, so, rg, tg, fun z => absurd z hm1, fun post hp => ?_, fun post hp => ?_⟩
      · rw [hS] at e1 hl4
        exact br_t (nI_le (Nat.le_refl _) (by omega)) (br_f (by rw [e1]; exact nI_nle (by simp) (by omega)) hp)
      · refine br_t (nI_le (Nat.le_refl _) (by omega)) (cy_innermost hc24 (fun e => ?_) (fun j' q' t' e => ?_))
        · rw [hS] at e; simp at e
        · have : j' < k := cm_In_lt (cm_Hd_In ⟨q', t', e⟩)
          exact br_f (nI_pos (by omega)) hp
  | succ d ih =>
    intro k ob orr os cl bk bp bs be co so rg tg hkd hA hI
    obtain ⟨r, hX, hY, hacc⟩ := cm_check (c := c) (sta := sta) (o1 := o1) (o2 := o2) (o3 := o3) (o4 := o4) (o5 := o5) (o6 := o6) (ln := ln) (dg := dg) (ff := ff) (sz := sz) (inp := inp) (mm := mm) (mk := mk) (ct := ct) (ev := ev) (sc := sc) (pc := pc) (ch := ch) (lf := lf) (tr := tr) (by omega) (hv k (by omega)) hI
    have hnl : ¬ nI c ≤ nI k := nI_ge (by omega) (by omega)
    by_cases hr : r = 0
    · have hak := hacc hr
      have hl4 := hI.2.2.2.2.2.2.2.2
      obtain ⟨ob', orr', os', cl', bk', bp', bs', be', co', so', rg', tg', hI', hE⟩ := cm_emit (c := c) (sta := sta) (o1 := o1) (o2 := o2) (o3 := o3) (o4 := o4) (o5 := o5) (o6 := o6) (ln := ln) (dg := dg) (ff := ff) (sz := sz) (inp := inp) (mm := mm) (mk := mk) (ct := ct) (ev := ev) (by omega) (hv k (by omega)) hak (fun i hi => (hA i hi).1) hI
      obtain ⟨r2, sta2, ob2, orr2, os2, cl2, bk2, bp2, bs2, be2, co2, so2, rg2, tg2, hG, hX2, hY2⟩ := ih (k + 1) ob' orr' os' cl' bk' bp' bs' be' co' so' rg' tg' (by omega) (fun i hi => by
        rcases Nat.lt_or_ge i k with z | z
        · exact hA i z
        · have : i = k := by omega
          subst this
          exact ⟨hak, hl4⟩) hI'
      refine ⟨r2, sta2, ob2, orr2, os2, cl2, bk2, bp2, bs2, be2, co2, so2, rg2, tg2, hG, fun post hp => ?_, fun post hp => ?_⟩
      · exact br_f hnl (hX _ (br_t hr (hE _ (nm_r (nI_1 k) (hX2 post hp)))))
      · exact br_f hnl (hY _ (br_t hr (nm_r (nI_1 k) (hY2 post hp))))
    · have hm1 : ¬ nI k = -1 := fun z => cm_m1ne (by omega) z.symm
      refine ⟨r, nI k, ob, orr, os, cl, bk, bp, bs, be, co, so, rg, tg, fun z => absurd z hm1, fun post hp => ?_, fun post hp => ?_⟩
      · exact br_f hnl (hX _ (br_f hr hp))
      · exact br_f hnl (hY _ (br_f hr hp))
theorem cm_CI0 : cm_CI K Xs (nI pv) 0 0 0 0 bk bp bs be co so rg tg 0 :=
  ⟨rfl, rfl, rfl, rfl, trivial, fun i hi => absurd hi (Nat.not_lt_zero _), fun i hi => absurd hi (Nat.not_lt_zero _), fun i hi => absurd hi (Nat.not_lt_zero _), Nat.zero_le _, Nat.zero_le _⟩
theorem cm_compile (hc24 : c ≤ 24) (hv : ∀ i, i < c → cm_Vd pv sv K Xs Ys Zs i) : ∃ (r sta' ob' orr' os' cl' : Int32) (bk' bp' bs' be' co' so' rg' tg' : Nat → Int32), (sta' = -1 → cm_Good K Xs (nI pv) cl' co' so' rg' tg' c) ∧ (∀ post : Int32 → SX → Prop, post r (o1, o2, o3, o4, o5, o6, nI pv, nI c, sta', ob', orr', os', cl', nI ln, dg, ff, sz, inp, mm, K, Xs, Ys, Zs, bk', bp', bs', be', co', so', rg', tg', mk, ct, ev) → wpX_compile post (o1, o2, o3, o4, o5, o6, nI pv, nI c, sta, ob, orr, os, cl, nI ln, dg, ff, sz, inp, mm, K, Xs, Ys, Zs, bk, bp, bs, be, co, so, rg, tg, mk, ct, ev)) ∧ (∀ post : Int32 → SY → Prop, post r (nI pv, nI sv, nI pc, nI sc, nI c, sta', ff, nI ln, K, Xs, Ys, Zs, inp, mm, ch, lf, tr) → wpY_compile post (nI pv, nI sv, nI pc, nI sc, nI c, sta, ff, nI ln, K, Xs, Ys, Zs, inp, mm, ch, lf, tr)) := by
  obtain ⟨r2, sta2, ob2, orr2, os2, cl2, bk2, bp2, bs2, be2, co2, so2, rg2, tg2, hG, hX2, hY2⟩ := cm_comp (sta := sta) (o1 := o1) (o2 := o2) (o3 := o3) (o4 := o4) (o5 := o5) (o6 := o6) (ln := ln) (dg := dg) (ff := ff) (sz := sz) (inp := inp) (mm := mm) (mk := mk) (ct := ct) (ev := ev) (sc := sc) (pc := pc) (ch := ch) (lf := lf) (tr := tr) hc24 hv c 0 0 0 0 0 bk bp bs be co so rg tg (by omega) (fun i hi => absurd hi (Nat.not_lt_zero _)) cm_CI0
  exact ⟨r2, sta2, ob2, orr2, os2, cl2, bk2, bp2, bs2, be2, co2, so2, rg2, tg2, hG, fun post hp => ⟨c + 1, hX2 post hp⟩, fun post hp => ⟨c + 1, hY2 post hp⟩⟩
end
end
section
/-- all ones where a and b agree, else 0 -/
def cm_eq (a b : Int32) : Int32 := if a = b then -1 else 0
theorem cm_eqm (a b : Int32) : (((a ^^^ b) ||| (-(a ^^^ b))) >>> ((31 : Int32) &&& 31)) ^^^ (-1) = cm_eq a b := by
  unfold cm_eq
  by_cases h : a = b
  · subst h
    rw [Int32.xor_self, if_pos rfl]
    decide
  · rw [if_neg h]
    have hd : a ^^^ b ≠ 0 := fun z => h (Int32.xor_eq_zero_iff.mp z)
    generalize a ^^^ b = d at hd
    have hneg : (d ||| -d).toInt < 0 := by
      have hm : (d ||| -d).toBitVec.msb = true := by
        rw [Int32.toBitVec_or, BitVec.msb_or, Int32.toBitVec_neg, BitVec.msb_neg]
        have hd' : d.toBitVec ≠ 0#32 := fun z => hd (Int32.toBitVec_inj.mp z)
        cases hmm : d.toBitVec.msb with
        | true => rfl
        | false =>
          have hi : d.toBitVec ≠ BitVec.intMin 32 := by
            intro z
            rw [z] at hmm
            exact absurd hmm (by decide)
          simp [hd', hi]
      rw [BitVec.msb_eq_toInt] at hm
      exact of_decide_eq_true hm
    have hs : ((d ||| -d) >>> ((31 : Int32) &&& 31)) = -1 := by
      apply Int32.toInt_inj.mp
      rw [pk_shr _ _ 31 (by decide), show (-1 : Int32).toInt = -1 from by decide]
      have h1 := (d ||| -d).le_toInt
      rw [Int.shiftRight_eq_div_pow]
      generalize (d ||| -d).toInt = x at hneg h1
      omega
    rw [hs]
    decide
theorem cm_eq_t (a : Int32) : cm_eq a a = -1 := if_pos rfl
theorem cm_eq_f {a b : Int32} (h : a ≠ b) : cm_eq a b = 0 := if_neg h
def cm_nf (ff k msk : Int32) : Int32 := (ff &&& ((msk &&& cm_eq ff (-1)) ^^^ (-1))) ||| (k &&& (msk &&& cm_eq ff (-1)))
def cm_wr (x v msk : Int32) : Int32 := (x &&& (msk ^^^ (-1))) ||| (v &&& msk)
theorem cm_x0 : (0 : Int32) ^^^ (-1) = -1 := by decide
theorem cm_x1 : (-1 : Int32) ^^^ (-1) = 0 := by decide
theorem cm_wr_0 (x v : Int32) : cm_wr x v 0 = x := by unfold cm_wr; rw [cm_x0, Int32.and_neg_one, Int32.and_zero, Int32.or_zero]
theorem cm_wr_1 (x v : Int32) : cm_wr x v (-1) = v := by unfold cm_wr; rw [cm_x1, Int32.and_neg_one, Int32.and_zero, Int32.zero_or]
theorem cm_nf_0 (ff k : Int32) : cm_nf ff k 0 = ff := by unfold cm_nf; rw [Int32.zero_and, cm_x0, Int32.and_neg_one, Int32.and_zero, Int32.or_zero]
theorem cm_nf_1 (k : Int32) : cm_nf (-1) k (-1) = k := by unfold cm_nf; rw [cm_eq_t, Int32.and_neg_one, cm_x1, Int32.and_neg_one, Int32.and_zero, Int32.zero_or]
theorem cm_nf_2 {ff : Int32} (h : ff ≠ -1) (k msk : Int32) : cm_nf ff k msk = ff := by unfold cm_nf; rw [cm_eq_f h, Int32.and_zero, cm_x0, Int32.and_neg_one, Int32.and_zero, Int32.or_zero]
/-- events: X's window, Y's trace, the digest -/
def cm_evu (ev : Nat → Int32) (n : Nat) (e : Int32) : Nat → Int32 := if n < 256 then upd ev n e else ev
def cm_pt (tr : Nat → Int32) (n : Nat) : List Int32 → (Nat → Int32)
  | [] => tr
  | e :: L => cm_pt (upd tr n e) (n + 1) L
def cm_pd (dg : Int32) : List Int32 → Int32
  | [] => dg
  | e :: L => cm_pd (dg * 31 + e) L
def cm_pe (ev : Nat → Int32) (n : Nat) : List Int32 → (Nat → Int32)
  | [] => ev
  | e :: L => cm_pe (cm_evu ev n e) (n + 1) L
def cm_dg (tr : Nat → Int32) : Nat → Int32
  | 0 => 7
  | n + 1 => cm_dg tr n * 31 + tr n
theorem cm_dg_fr {tr tr' : Nat → Int32} : ∀ {n : Nat}, (∀ i, i < n → tr' i = tr i) → cm_dg tr' n = cm_dg tr n
  | 0, _ => rfl
  | n + 1, h => by
    show cm_dg tr' n * 31 + tr' n = cm_dg tr n * 31 + tr n
    rw [cm_dg_fr (fun i hi => h i (by omega)), h n (by omega)]
def cm_Tr (n : Nat) (dg : Int32) (ev tr : Nat → Int32) : Prop := dg = cm_dg tr n ∧ ∀ i, i < n → i < 256 → ev i = tr i
theorem cm_Tr_1 {n : Nat} {dg : Int32} {ev tr : Nat → Int32} (h : cm_Tr n dg ev tr) (e : Int32) : cm_Tr (n + 1) (dg * 31 + e) (cm_evu ev n e) (upd tr n e) := by
  refine ⟨?_, fun i hi hi2 => ?_⟩
  · show _ = cm_dg (upd tr n e) n * 31 + upd tr n e n
    rw [pk_us, cm_dg_fr (tr := tr) (fun i hi => pk_un (by omega)), ← h.1]
  · unfold cm_evu
    by_cases hn : i = n
    · subst hn
      rw [if_pos hi2, pk_us, pk_us]
    · rw [pk_un hn]
      by_cases h2 : n < 256
      · rw [if_pos h2, pk_un hn]; exact h.2 i (by omega) hi2
      · rw [if_neg h2]; exact h.2 i (by omega) hi2
theorem cm_Tr_L : ∀ (L : List Int32) {n : Nat} {dg : Int32} {ev tr : Nat → Int32}, cm_Tr n dg ev tr → cm_Tr (n + L.length) (cm_pd dg L) (cm_pe ev n L) (cm_pt tr n L)
  | [], _, _, _, _, h => h
  | e :: L, n, dg, ev, tr, h => by
    have a := cm_Tr_L L (cm_Tr_1 h e)
    have b : n + (e :: L).length = n + 1 + L.length := by simp; omega
    rw [b]
    exact a
/-- the address events of d cells from i on -/
def cm_L (A : Nat) : Nat → Nat → List Int32
  | _, 0 => []
  | i, d + 1 => (32 * nI A + nI i) :: cm_L A (i + 1) d
theorem cm_L_len (A : Nat) : ∀ d i, (cm_L A i d).length = d
  | 0, _ => rfl
  | d + 1, i => by show (cm_L A (i + 1) d).length + 1 = d + 1; rw [cm_L_len A d]
/-- what X's sweeps reckon -/
def cm_lv (mm : Nat → Int32) (b : Nat) (ix : Int32) : Nat → Nat → Int32 → Int32
  | 0, _, v => v
  | d + 1, i, v => cm_lv mm b ix d (i + 1) (v ||| (mm (b + i) &&& cm_eq (nI i) ix))
def cm_lf (ix : Int32) : Nat → Nat → Int32 → Int32
  | 0, _, f => f
  | d + 1, i, f => cm_lf ix d (i + 1) (f ||| cm_eq (nI i) ix)
def cm_ls (b : Nat) (v ix msk : Int32) : Nat → Nat → (Nat → Int32) → (Nat → Int32)
  | 0, _, m => m
  | d + 1, i, m => cm_ls b v ix msk d (i + 1) (upd m (b + i) (cm_wr (m (b + i)) v (cm_eq (nI i) ix &&& msk)))
theorem cm_upd_id (m : Nat → Int32) (k : Nat) : upd m k (m k) = m := by
  funext j
  by_cases h : j = k
  · subst h; exact pk_us
  · exact pk_un h
theorem cm_lv_miss {mm : Nat → Int32} {b : Nat} {ix : Int32} : ∀ (d i : Nat) (v : Int32), (∀ t, i ≤ t → t < i + d → nI t ≠ ix) → cm_lv mm b ix d i v = v
  | 0, _, _, _ => rfl
  | d + 1, i, v, h => by
    show cm_lv mm b ix d (i + 1) (v ||| (mm (b + i) &&& cm_eq (nI i) ix)) = v
    rw [cm_eq_f (h i (by omega) (by omega)), Int32.and_zero, Int32.or_zero]
    exact cm_lv_miss d (i + 1) v (fun t h1 h2 => h t (by omega) (by omega))
theorem cm_lf_miss {ix : Int32} : ∀ (d i : Nat) (v : Int32), (∀ t, i ≤ t → t < i + d → nI t ≠ ix) → cm_lf ix d i v = v
  | 0, _, _, _ => rfl
  | d + 1, i, v, h => by
    show cm_lf ix d (i + 1) (v ||| cm_eq (nI i) ix) = v
    rw [cm_eq_f (h i (by omega) (by omega)), Int32.or_zero]
    exact cm_lf_miss d (i + 1) v (fun t h1 h2 => h t (by omega) (by omega))
theorem cm_ls_miss {b : Nat} {v ix msk : Int32} : ∀ (d i : Nat) (m : Nat → Int32), (∀ t, i ≤ t → t < i + d → nI t ≠ ix) → cm_ls b v ix msk d i m = m
  | 0, _, _, _ => rfl
  | d + 1, i, m, h => by
    show cm_ls b v ix msk d (i + 1) (upd m (b + i) (cm_wr (m (b + i)) v (cm_eq (nI i) ix &&& msk))) = m
    rw [cm_eq_f (h i (by omega) (by omega)), Int32.zero_and, cm_wr_0, cm_upd_id]
    exact cm_ls_miss d (i + 1) m (fun t h1 h2 => h t (by omega) (by omega))
theorem cm_lv_hit {mm : Nat → Int32} {b t : Nat} (ht : t < 100) : ∀ (d i : Nat), i ≤ t → t < i + d → i + d < 100 → cm_lv mm b (nI t) d i 0 = mm (b + t)
  | 0, i, h1, h2, _ => by omega
  | d + 1, i, h1, h2, h3 => by
    show cm_lv mm b (nI t) d (i + 1) (0 ||| (mm (b + i) &&& cm_eq (nI i) (nI t))) = _
    by_cases hi : i = t
    · subst hi
      rw [cm_eq_t, Int32.and_neg_one, Int32.zero_or]
      exact cm_lv_miss d (i + 1) _ (fun t h1 h2 z => by have := (nI_eq (by omega) (by omega)).mp z; omega)
    · rw [cm_eq_f (fun z => hi ((nI_eq (by omega) (by omega)).mp z)), Int32.and_zero, Int32.or_zero]
      exact cm_lv_hit ht d (i + 1) (by omega) (by omega) (by omega)
theorem cm_lf_hit {t : Nat} (ht : t < 100) : ∀ (d i : Nat), i ≤ t → t < i + d → i + d < 100 → cm_lf (nI t) d i 0 = -1
  | 0, i, h1, h2, _ => by omega
  | d + 1, i, h1, h2, h3 => by
    show cm_lf (nI t) d (i + 1) (0 ||| cm_eq (nI i) (nI t)) = _
    by_cases hi : i = t
    · subst hi
      rw [cm_eq_t, Int32.zero_or]
      exact cm_lf_miss d (i + 1) _ (fun t h1 h2 z => by have := (nI_eq (by omega) (by omega)).mp z; omega)
    · rw [cm_eq_f (fun z => hi ((nI_eq (by omega) (by omega)).mp z)), Int32.or_zero]
      exact cm_lf_hit ht d (i + 1) (by omega) (by omega) (by omega)
theorem cm_ls_hit {b t : Nat} {v msk : Int32} (ht : t < 100) : ∀ (d i : Nat) (m : Nat → Int32), i ≤ t → t < i + d → i + d < 100 → cm_ls b v (nI t) msk d i m = upd m (b + t) (cm_wr (m (b + t)) v msk)
  | 0, i, _, h1, h2, _ => by omega
  | d + 1, i, m, h1, h2, h3 => by
    show cm_ls b v (nI t) msk d (i + 1) (upd m (b + i) (cm_wr (m (b + i)) v (cm_eq (nI i) (nI t) &&& msk))) = _
    by_cases hi : i = t
    · subst hi
      rw [cm_eq_t, Int32.neg_one_and]
      exact cm_ls_miss d (i + 1) _ (fun t h1 h2 z => by have := (nI_eq (by omega) (by omega)).mp z; omega)
    · rw [cm_eq_f (fun z => hi ((nI_eq (by omega) (by omega)).mp z)), Int32.zero_and, cm_wr_0, cm_upd_id]
      exact cm_ls_hit ht d (i + 1) m (by omega) (by omega) (by omega)
end
section
/-- the sizes and bases of the areas -/
def cm_na (pv sv pc sc A : Nat) : Nat := if A = 0 then pv + sv else if A = 1 then pc else sc
def cm_ba (A : Nat) : Nat := if A = 0 then 0 else 8 + 8 * A
def cm_Bd (pv sv pc sc : Nat) : Prop := 1 ≤ pv ∧ pv ≤ 8 ∧ 1 ≤ sv ∧ sv ≤ 8 ∧ 1 ≤ pc ∧ pc ≤ 8 ∧ 1 ≤ sc ∧ sc ≤ 8
def cm_Sz (pv sv pc sc : Nat) (sz : Nat → Int32) : Prop := sz 0 = nI (pv + sv) ∧ sz 1 = nI pc ∧ sz 2 = nI sc
theorem cm_na_b {pv sv pc sc A t : Nat} (h : cm_Bd pv sv pc sc) (hA : A ≤ 2) (ht : t < cm_na pv sv pc sc A) : cm_ba A + t < 32 ∧ t < 16 ∧ cm_na pv sv pc sc A ≤ 16 := by
  obtain ⟨a, b, c, d, e, f, g, i⟩ := h
  have : A = 0 ∨ A = 1 ∨ A = 2 := by omega
  rcases this with rfl | rfl | rfl
  · have e1 : cm_na pv sv pc sc 0 = pv + sv := rfl
    have e2 : cm_ba 0 = 0 := rfl
    omega
  · have e1 : cm_na pv sv pc sc 1 = pc := rfl
    have e2 : cm_ba 1 = 16 := rfl
    omega
  · have e1 : cm_na pv sv pc sc 2 = sc := rfl
    have e2 : cm_ba 2 = 24 := rfl
    omega
theorem cm_na_8 {pv sv pc sc A : Nat} (h : cm_Bd pv sv pc sc) (hA : A = 1 ∨ A = 2) : 1 ≤ cm_na pv sv pc sc A ∧ cm_na pv sv pc sc A ≤ 8 := by
  obtain ⟨a, b, c, d, e, f, g, i⟩ := h
  rcases hA with rfl | rfl
  · exact ⟨e, f⟩
  · exact ⟨g, i⟩
theorem cm_na_16 {pv sv pc sc A : Nat} (h : cm_Bd pv sv pc sc) : cm_na pv sv pc sc A ≤ 16 := by
  obtain ⟨a, b, c, d, e, f, g, i⟩ := h
  unfold cm_na
  split
  · omega
  · split <;> omega
theorem cm_sz_A {pv sv pc sc A : Nat} {sz : Nat → Int32} (h : cm_Sz pv sv pc sc sz) (hA : A ≤ 2) : sz A = nI (cm_na pv sv pc sc A) := by
  have : A = 0 ∨ A = 1 ∨ A = 2 := by omega
  rcases this with rfl | rfl | rfl
  · exact h.1
  · exact h.2.1
  · exact h.2.2
section
variable {o1 o2 o3 o4 o5 o6 sta ob orr os cl dg ff : Int32} {pv sv pc sc c ln : Nat} {sz inp mm K Xs Ys Zs bk bp bs be co so rg tg mk ct ev ch lf tr : Nat → Int32}
theorem cx_observe {post : SX → Prop} {e : Int32} (hl : ln < 2 ^ 30) (h : post (o1, o2, o3, o4, o5, o6, nI pv, nI c, sta, ob, orr, os, cl, nI (ln + 1), dg * 31 + e, ff, sz, inp, mm, K, Xs, Ys, Zs, bk, bp, bs, be, co, so, rg, tg, mk, ct, cm_evu ev ln e)) : wpX_observe post (o1, o2, o3, o4, o5, o6, nI pv, nI c, sta, ob, orr, os, cl, nI ln, dg, ff, sz, inp, mm, K, Xs, Ys, Zs, bk, bp, bs, be, co, so, rg, tg, mk, ct, ev) e := by
  refine pk_le 256 ln (fun z => ?_) (fun z => ?_)
  · have e1 : cm_evu ev ln e = ev := if_neg (by omega)
    rw [e1] at h
    exact nm_r (nI_1 ln) (nm_e h)
  · have e1 : cm_evu ev ln e = upd ev ln e := if_pos z
    rw [e1] at h
    exact And.intro (vp_in_nI z (by decide)) (nm_r (e' := upd ev ln e) (by rw [nI_clamp (by omega)]) (nm_r (nI_1 ln) (nm_e h)))
theorem cx_eqm {post : Int32 → Prop} {a b : Int32} (h : post (cm_eq a b)) : wpX_equalMask post (o1, o2, o3, o4, o5, o6, nI pv, nI c, sta, ob, orr, os, cl, nI ln, dg, ff, sz, inp, mm, K, Xs, Ys, Zs, bk, bp, bs, be, co, so, rg, tg, mk, ct, ev) a b := by
  refine nm_e ?_
  show post ((((a ^^^ b) ||| (-(a ^^^ b))) >>> ((31 : Int32) &&& 31)) ^^^ (-1))
  rw [cm_eqm]
  exact h
theorem cx_noteFault {post : SX → Prop} {k msk : Int32} (h : post (o1, o2, o3, o4, o5, o6, nI pv, nI c, sta, ob, orr, os, cl, nI ln, dg, cm_nf ff k msk, sz, inp, mm, K, Xs, Ys, Zs, bk, bp, bs, be, co, so, rg, tg, mk, ct, ev)) : wpX_noteFault post (o1, o2, o3, o4, o5, o6, nI pv, nI c, sta, ob, orr, os, cl, nI ln, dg, ff, sz, inp, mm, K, Xs, Ys, Zs, bk, bp, bs, be, co, so, rg, tg, mk, ct, ev) k msk := by
  unfold wpX_noteFault
  refine cx_eqm ?_
  exact nm_e (nm_e h)
theorem cx_write {post : SX → Prop} {s : Nat} {v msk : Int32} (hs : s < 32) (h : post (o1, o2, o3, o4, o5, o6, nI pv, nI c, sta, ob, orr, os, cl, nI ln, dg, ff, sz, inp, upd mm s (cm_wr (mm s) v msk), K, Xs, Ys, Zs, bk, bp, bs, be, co, so, rg, tg, mk, ct, ev)) : wpX_write post (o1, o2, o3, o4, o5, o6, nI pv, nI c, sta, ob, orr, os, cl, nI ln, dg, ff, sz, inp, mm, K, Xs, Ys, Zs, bk, bp, bs, be, co, so, rg, tg, mk, ct, ev) (nI s) v msk := by
  have hin : vp_in (nI s) 32 := vp_in_nI hs (by decide)
  have hc : (nI s).toNatClampNeg = s := nI_clamp (by omega)
  exact And.intro hin (And.intro hin (nm_r (e' := upd mm s (cm_wr (mm s) v msk)) (by rw [hc]; rfl) h))
theorem cx_base {post : Int32 → Prop} {A : Nat} (hA : A ≤ 2) (h : post (nI (cm_ba A))) : wpX_baseOf post (o1, o2, o3, o4, o5, o6, nI pv, nI c, sta, ob, orr, os, cl, nI ln, dg, ff, sz, inp, mm, K, Xs, Ys, Zs, bk, bp, bs, be, co, so, rg, tg, mk, ct, ev) (nI A) := by
  have : A = 0 ∨ A = 1 ∨ A = 2 := by omega
  rcases this with rfl | rfl | rfl
  · exact br_t rfl h
  · exact br_f (by decide) h
  · exact br_f (by decide) h
theorem cx_slot_hit {post : Int32 → Prop} {A t : Nat} (hb : cm_Bd pv sv pc sc) (hz : cm_Sz pv sv pc sc sz) (hA : A ≤ 2) (ht : t < cm_na pv sv pc sc A) (h : post (nI (cm_ba A + t))) : wpX_slotOf post (o1, o2, o3, o4, o5, o6, nI pv, nI c, sta, ob, orr, os, cl, nI ln, dg, ff, sz, inp, mm, K, Xs, Ys, Zs, bk, bp, bs, be, co, so, rg, tg, mk, ct, ev) (nI A) (nI t) := by
  have hh := cm_na_b hb hA ht
  have hc : (nI A).toNatClampNeg = A := nI_clamp (by omega)
  refine br_f (nI_pos (by omega)) (br_t (nI_le (b := 2) hA (by decide)) (br_f (nI_pos (by omega)) (And.intro (vp_in_nI (by omega) (by decide)) ?_)))
  rw [hc, cm_sz_A hz hA]
  refine br_t (nI_lt ht (by omega)) (cx_base hA ?_)
  rw [nI_add]
  exact h
theorem cx_slot_miss {post : Int32 → Prop} {A : Nat} {x : Int32} (hb : cm_Bd pv sv pc sc) (hz : cm_Sz pv sv pc sc sz) (hA : A ≤ 2) (hx : ∀ t, t < cm_na pv sv pc sc A → x ≠ nI t) (h : post (-1)) : wpX_slotOf post (o1, o2, o3, o4, o5, o6, nI pv, nI c, sta, ob, orr, os, cl, nI ln, dg, ff, sz, inp, mm, K, Xs, Ys, Zs, bk, bp, bs, be, co, so, rg, tg, mk, ct, ev) (nI A) x := by
  have hc : (nI A).toNatClampNeg = A := nI_clamp (by omega)
  have h16 := cm_na_16 (A := A) hb
  refine br_f (nI_pos (by omega)) (br_t (nI_le (b := 2) hA (by decide)) ?_)
  by_cases h0 : x < 0
  · exact br_t h0 h
  · refine br_f h0 (And.intro (vp_in_nI (by omega) (by decide)) ?_)
    rw [hc, cm_sz_A hz hA]
    obtain ⟨j, hj, rfl⟩ := nI_of h0
    refine br_f (fun z => ?_) h
    exact hx j ((nI_ltI hj (by omega)).mp z) rfl
theorem cx_slot_bad {post : Int32 → Prop} {a x : Int32} (ha : a < 0 ∨ ¬ a ≤ 2) (h : post (-1)) : wpX_slotOf post (o1, o2, o3, o4, o5, o6, nI pv, nI c, sta, ob, orr, os, cl, nI ln, dg, ff, sz, inp, mm, K, Xs, Ys, Zs, bk, bp, bs, be, co, so, rg, tg, mk, ct, ev) a x := by
  by_cases h0 : a < 0
  · exact br_t h0 h
  · exact br_f h0 (br_f (ha.resolve_left h0) h)
theorem cy_cells {post : Int32 → Prop} {A : Nat} (hA : A ≤ 2) (h : post (nI (cm_na pv sv pc sc A))) : wpY_cells post (nI pv, nI sv, nI pc, nI sc, nI c, sta, ff, nI ln, K, Xs, Ys, Zs, inp, mm, ch, lf, tr) (nI A) := by
  have : A = 0 ∨ A = 1 ∨ A = 2 := by omega
  rcases this with rfl | rfl | rfl
  · exact br_t rfl (by rw [nI_add]; exact h)
  · exact br_f (by decide) (br_t rfl h)
  · exact br_f (by decide) (br_f (by decide) (br_t rfl h))
theorem cy_place_hit {post : Int32 → Prop} {A t : Nat} (hb : cm_Bd pv sv pc sc) (hA : A ≤ 2) (ht : t < cm_na pv sv pc sc A) (h : post (nI (cm_ba A + t))) : wpY_place post (nI pv, nI sv, nI pc, nI sc, nI c, sta, ff, nI ln, K, Xs, Ys, Zs, inp, mm, ch, lf, tr) (nI A) (nI t) := by
  have hh := cm_na_b hb hA ht
  refine br_f (nI_pos (by omega)) (cy_cells hA (br_t (nI_lt ht (by omega)) ?_))
  have : A = 0 ∨ A = 1 ∨ A = 2 := by omega
  rcases this with rfl | rfl | rfl
  · refine br_t rfl ?_
    have e : cm_ba 0 + t = t := Nat.zero_add t
    rw [e] at h
    exact h
  · refine br_f (by decide) ?_
    have e : (8 + 8 * nI 1 : Int32) = nI 16 := by decide
    rw [e, nI_add]
    exact h
  · refine br_f (by decide) ?_
    have e : (8 + 8 * nI 2 : Int32) = nI 24 := by decide
    rw [e, nI_add]
    exact h
theorem cy_place_miss {post : Int32 → Prop} {A : Nat} {x : Int32} (hb : cm_Bd pv sv pc sc) (hA : A ≤ 2) (hx : ∀ t, t < cm_na pv sv pc sc A → x ≠ nI t) (h : post (-1)) : wpY_place post (nI pv, nI sv, nI pc, nI sc, nI c, sta, ff, nI ln, K, Xs, Ys, Zs, inp, mm, ch, lf, tr) (nI A) x := by
  have h16 := cm_na_16 (A := A) hb
  by_cases h0 : x < 0
  · exact br_t h0 h
  · obtain ⟨j, hj, rfl⟩ := nI_of h0
    exact br_f h0 (cy_cells hA (br_f (fun z => hx j ((nI_ltI hj (by omega)).mp z) rfl) h))
theorem cy_place_bad {post : Int32 → Prop} {a x : Int32} (ha : a < 0 ∨ ¬ a ≤ 2) (h : post (-1)) : wpY_place post (nI pv, nI sv, nI pc, nI sc, nI c, sta, ff, nI ln, K, Xs, Ys, Zs, inp, mm, ch, lf, tr) a x := by
  by_cases h0 : x < 0
  · exact br_t h0 h
  · have n0 : ¬ a = 0 := by rintro rfl; exact absurd ha (by decide)
    have n1 : ¬ a = 1 := by rintro rfl; exact absurd ha (by decide)
    have n2 : ¬ a = 2 := by rintro rfl; exact absurd ha (by decide)
    exact br_f h0 (br_f n0 (br_f n1 (br_f n2 (br_f h0 h))))
/-- one slot for both -/
theorem cm_slot (hb : cm_Bd pv sv pc sc) (hz : cm_Sz pv sv pc sc sz) (a x : Int32) : ∃ r : Int32, (r = -1 ∨ ∃ s, s < 32 ∧ r = nI s) ∧ (∀ post : Int32 → Prop, post r → wpX_slotOf post (o1, o2, o3, o4, o5, o6, nI pv, nI c, sta, ob, orr, os, cl, nI ln, dg, ff, sz, inp, mm, K, Xs, Ys, Zs, bk, bp, bs, be, co, so, rg, tg, mk, ct, ev) a x) ∧ (∀ post : Int32 → Prop, post r → wpY_place post (nI pv, nI sv, nI pc, nI sc, nI c, sta, ff, nI ln, K, Xs, Ys, Zs, inp, mm, ch, lf, tr) a x) := by
  by_cases ha : a < 0 ∨ ¬ a ≤ 2
  · exact ⟨-1, Or.inl rfl, fun post h => cx_slot_bad ha h, fun post h => cy_place_bad ha h⟩
  · have a0 : ¬ a < 0 := fun z => ha (Or.inl z)
    have a2 : a ≤ 2 := Classical.byContradiction fun z => ha (Or.inr z)
    obtain ⟨A, hA, rfl⟩ := nI_of2 (n := 2) (by decide) a0 a2
    by_cases hx : ∃ t, t < cm_na pv sv pc sc A ∧ x = nI t
    · obtain ⟨t, ht, rfl⟩ := hx
      have hh := cm_na_b hb hA ht
      exact ⟨nI (cm_ba A + t), Or.inr ⟨_, hh.1, rfl⟩, fun post h => cx_slot_hit hb hz hA ht h, fun post h => cy_place_hit hb hA ht h⟩
    · have hx' : ∀ t, t < cm_na pv sv pc sc A → x ≠ nI t := fun t ht z => hx ⟨t, ht, z⟩
      exact ⟨-1, Or.inl rfl, fun post h => cx_slot_miss hb hz hA hx' h, fun post h => cy_place_miss hb hA hx' h⟩
theorem cy_emit {post : SY → Prop} {e : Int32} (hl : ln < 4096) (h : post (nI pv, nI sv, nI pc, nI sc, nI c, sta, ff, nI (ln + 1), K, Xs, Ys, Zs, inp, mm, ch, lf, upd tr ln e)) : wpY_emit post (nI pv, nI sv, nI pc, nI sc, nI c, sta, ff, nI ln, K, Xs, Ys, Zs, inp, mm, ch, lf, tr) e := by
  refine pk_le 4096 ln (fun z => absurd z (by omega)) (fun z => ?_)
  exact And.intro (vp_in_nI hl (by decide)) (nm_r (e' := upd tr ln e) (by rw [nI_clamp (by omega)]) (nm_r (nI_1 ln) h))
theorem cy_touch_s {post : SY → Prop} {A z N : Nat} (hz : ¬ nI z < nI pv) (hN : N ≤ 16) : ∀ (d i ln : Nat) (tr : Nat → Int32), i + d = N → ln + d ≤ 4096 → post (nI pv, nI sv, nI pc, nI sc, nI c, sta, ff, nI (ln + d), K, Xs, Ys, Zs, inp, mm, ch, lf, cm_pt tr ln (cm_L A i d)) → wY_touch_9 post (nI A) (nI z) (nI N) (d + 1) (nI i) (nI pv) (nI sv) (nI pc) (nI sc) (nI c) sta ff (nI ln) K Xs Ys Zs inp mm ch lf tr
  | 0, i, ln, tr, hi, _, h => by
    have e : i = N := by omega
    subst e
    exact br_t (nI_le (Nat.le_refl _) (by omega)) h
  | d + 1, i, ln, tr, hi, hl, h => by
    refine br_f (nI_ge (by omega) (by omega)) (cy_secret (fun y => absurd y hz) (fun _ => ?_))
    refine br_f (by decide) (cy_emit (by omega) (nm_r (nI_1 i) ?_))
    refine cy_touch_s hz hN d (i + 1) (ln + 1) _ (by omega) (by omega) ?_
    have e : ln + (d + 1) = ln + 1 + d := by omega
    rw [e] at h
    exact h
theorem cy_touch_m {post : SY → Prop} {A z N : Nat} (hz : nI z < nI pv) (hz32 : z < 32) (hN : N ≤ 16) (h : post (nI pv, nI sv, nI pc, nI sc, nI c, sta, ff, nI ln, K, Xs, Ys, Zs, inp, mm, ch, lf, tr)) : ∀ (d i : Nat), i + d = N → (∀ t, i ≤ t → t < N → mm z ≠ nI t) → wY_touch_9 post (nI A) (nI z) (nI N) (d + 1) (nI i) (nI pv) (nI sv) (nI pc) (nI sc) (nI c) sta ff (nI ln) K Xs Ys Zs inp mm ch lf tr
  | 0, i, hi, _ => by
    have e : i = N := by omega
    subst e
    exact br_t (nI_le (Nat.le_refl _) (by omega)) h
  | d + 1, i, hi, hm => by
    refine br_f (nI_ge (by omega) (by omega)) (cy_secret (fun _ => ?_) (fun y => absurd hz y))
    refine br_t rfl (And.intro (vp_in_nI hz32 (by decide)) (br_f ?_ (nm_r (nI_1 i) (cy_touch_m hz hz32 hN h d (i + 1) (by omega) (fun t h1 h2 => hm t (by omega) h2)))))
    rw [nI_clamp (by omega)]
    exact hm i (Nat.le_refl _) (by omega)
theorem cy_touch_h {post : SY → Prop} {A z N t : Nat} (hz : nI z < nI pv) (hz32 : z < 32) (hN : N ≤ 16) (ht : t < N) (hm : mm z = nI t) (hl : ln < 4096) (h : post (nI pv, nI sv, nI pc, nI sc, nI c, sta, ff, nI (ln + 1), K, Xs, Ys, Zs, inp, mm, ch, lf, cm_pt tr ln (cm_L A t 1))) : ∀ (d i : Nat), i + d = N → i ≤ t → wY_touch_9 post (nI A) (nI z) (nI N) (d + 1) (nI i) (nI pv) (nI sv) (nI pc) (nI sc) (nI c) sta ff (nI ln) K Xs Ys Zs inp mm ch lf tr
  | 0, i, hi, hit => by omega
  | d + 1, i, hi, hit => by
    refine br_f (nI_ge (by omega) (by omega)) (cy_secret (fun _ => ?_) (fun y => absurd hz y))
    refine br_t rfl (And.intro (vp_in_nI hz32 (by decide)) ?_)
    rw [nI_clamp (by omega), hm]
    by_cases e : t = i
    · subst e
      refine br_t rfl (cy_emit hl (nm_r (nI_1 t) ?_))
      exact cy_touch_m hz hz32 hN h d (t + 1) (by omega) (fun t' h1 h2 z => by rw [hm] at z; have := (nI_eq (by omega) (by omega)).mp z; omega)
    · exact br_f (fun y => e ((nI_eq (by omega) (by omega)).mp y)) (nm_r (nI_1 i) (cy_touch_h hz hz32 hN ht hm hl h d (i + 1) (by omega) (by omega)))
/-- one sweep for both: the cells f .. f + d - 1 are touched -/
theorem cm_touch {A z : Nat} (hb : cm_Bd pv sv pc sc) (hsz : cm_Sz pv sv pc sc sz) (hA : A = 1 ∨ A = 2) (hz : z < 16) (hl : ln + 8 ≤ 4096) : ∃ f d : Nat, f + d ≤ 8 ∧ (∀ post : Int32 → Prop, post (nI f) → wpX_firstTouched post (o1, o2, o3, o4, o5, o6, nI pv, nI c, sta, ob, orr, os, cl, nI ln, dg, ff, sz, inp, mm, K, Xs, Ys, Zs, bk, bp, bs, be, co, so, rg, tg, mk, ct, ev) (nI A) (nI z)) ∧ (∀ post : Int32 → Prop, post (nI (f + d)) → wpX_endTouched post (o1, o2, o3, o4, o5, o6, nI pv, nI c, sta, ob, orr, os, cl, nI ln, dg, ff, sz, inp, mm, K, Xs, Ys, Zs, bk, bp, bs, be, co, so, rg, tg, mk, ct, ev) (nI A) (nI z)) ∧ (∀ post : SY → Prop, post (nI pv, nI sv, nI pc, nI sc, nI c, sta, ff, nI (ln + d), K, Xs, Ys, Zs, inp, mm, ch, lf, cm_pt tr ln (cm_L A f d)) → wpY_touch post (nI pv, nI sv, nI pc, nI sc, nI c, sta, ff, nI ln, K, Xs, Ys, Zs, inp, mm, ch, lf, tr) (nI A) (nI z)) ∧ ((∃ t, f ≤ t ∧ t < f + d ∧ mm z = nI t ∧ t < cm_na pv sv pc sc A) ∨ ((∀ t, f ≤ t → t < f + d → nI t ≠ mm z) ∧ (∀ t, t < cm_na pv sv pc sc A → mm z ≠ nI t))) := by
  have hA2 : A ≤ 2 := by omega
  have h8 := cm_na_8 hb hA
  have hc : (nI z).toNatClampNeg = z := nI_clamp (by omega)
  have hcA : (nI A).toNatClampNeg = A := nI_clamp (by omega)
  have hin : vp_in (nI z) 32 := vp_in_nI (by omega) (by decide)
  have hinA : vp_in (nI A) 3 := vp_in_nI (by omega) (by decide)
  by_cases hs : nI z < nI pv
  · by_cases hx : ∃ t, t < cm_na pv sv pc sc A ∧ mm z = nI t
    · obtain ⟨t, ht, hm⟩ := hx
      refine ⟨t, 1, by omega, fun post h => ?_, fun post h => ?_, fun post h => ?_, Or.inl ⟨t, by omega, by omega, hm, ht⟩⟩
      · unfold wpX_firstTouched
        refine cx_isSecret (fun _ => br_t rfl (And.intro hin ?_)) (fun y => absurd hs y)
        rw [hc, hm]
        have hh := cm_na_b hb hA2 ht
        exact cx_slot_hit hb hsz hA2 ht (br_t (nI_pos' (by omega)) (And.intro hin h))
      · unfold wpX_endTouched
        refine cx_isSecret (fun _ => br_t rfl (And.intro hin ?_)) (fun y => absurd hs y)
        rw [hc, hm]
        have hh := cm_na_b hb hA2 ht
        exact cx_slot_hit hb hsz hA2 ht (br_t (nI_pos' (by omega)) (And.intro hin (by rw [nI_1]; exact h)))
      · unfold wpY_touch
        refine cy_cells hA2 ?_
        exact ⟨_, cy_touch_h hs (by omega) (by omega) ht hm (by omega) h (cm_na pv sv pc sc A) 0 (by omega) (by omega)⟩
    · have hx' : ∀ t, t < cm_na pv sv pc sc A → mm z ≠ nI t := fun t ht y => hx ⟨t, ht, y⟩
      refine ⟨0, 0, by omega, fun post h => ?_, fun post h => ?_, fun post h => ?_, Or.inr ⟨fun t h1 h2 => by omega, hx'⟩⟩
      · unfold wpX_firstTouched
        refine cx_isSecret (fun _ => br_t rfl (And.intro hin ?_)) (fun y => absurd hs y)
        rw [hc]
        exact cx_slot_miss hb hsz hA2 hx' (br_f (by decide) h)
      · unfold wpX_endTouched
        refine cx_isSecret (fun _ => br_t rfl (And.intro hin ?_)) (fun y => absurd hs y)
        rw [hc]
        exact cx_slot_miss hb hsz hA2 hx' (br_f (by decide) h)
      · unfold wpY_touch
        refine cy_cells hA2 ?_
        exact ⟨_, cy_touch_m hs (by omega) (by omega) h (cm_na pv sv pc sc A) 0 (by omega) (fun t _ h2 => hx' t h2)⟩
  · refine ⟨0, cm_na pv sv pc sc A, by omega, fun post h => ?_, fun post h => ?_, fun post h => ?_, ?_⟩
    · unfold wpX_firstTouched
      exact cx_isSecret (fun y => absurd y hs) (fun _ => br_f (by decide) h)
    · unfold wpX_endTouched
      refine cx_isSecret (fun y => absurd y hs) (fun _ => br_f (by decide) (And.intro hinA ?_))
      rw [hcA, cm_sz_A hsz hA2]
      rw [Nat.zero_add] at h
      exact h
    · unfold wpY_touch
      refine cy_cells hA2 ?_
      exact ⟨_, cy_touch_s hs (by omega) (cm_na pv sv pc sc A) 0 ln tr (by omega) (by omega) h⟩
    · by_cases hx : ∃ t, t < cm_na pv sv pc sc A ∧ mm z = nI t
      · obtain ⟨t, ht, hm⟩ := hx
        exact Or.inl ⟨t, by omega, by omega, hm, ht⟩
      · exact Or.inr ⟨fun t _ h2 y => hx ⟨t, by omega, y.symm⟩, fun t ht y => hx ⟨t, ht, y⟩⟩
end
end
section
def cm_val (t : Nat) (a b : Int32) : Int32 :=
  if t = 1 then a + b else if t = 2 then a - b else if t = 3 then a * b else if t = 4 then (if b = 0 then 0 else a / b) else if t = 5 then a &&& b else if t = 6 then a ^^^ b else if t = 7 then (if b ≤ a then 0 else 1) else (if a = b then 1 else 0)
theorem cm_nf_ok {ff k m : Int32} (h : ff = -1 ∨ 0 ≤ ff) (hk : 0 ≤ k) (hm : m = 0 ∨ m = -1) : cm_nf ff k m = -1 ∨ 0 ≤ cm_nf ff k m := by
  rcases hm with rfl | rfl
  · rw [cm_nf_0]; exact h
  · by_cases e : ff = -1
    · subst e; rw [cm_nf_1]; exact Or.inr hk
    · rw [cm_nf_2 e]; exact h
/-- the mask agrees with Y's live -/
def cm_Mk (L : Prop) (msk : Int32) : Prop := (L ∧ msk = -1) ∨ (¬ L ∧ msk = 0)
theorem cm_Mk_01 {L : Prop} {msk : Int32} (h : cm_Mk L msk) : msk = 0 ∨ msk = -1 := h.elim (fun z => Or.inr z.2) (fun z => Or.inl z.2)
section
variable {o1 o2 o3 o4 o5 o6 sta ob orr os cl dg ff : Int32} {pv sv pc sc c ln : Nat} {sz inp mm K Xs Ys Zs bk bp bs be co so rg tg mk ct ev ch lf tr : Nat → Int32}
theorem cx_load_l {post : SX → Prop} {k A b e x : Nat} {msk ix : Int32} (hk : k < 24) (hx : Xs k = nI x) (hx32 : x < 32) (hb : b + 8 ≤ 32) (he : e ≤ 8) : ∀ (d i ln : Nat) (val fnd dg : Int32) (ev : Nat → Int32), i + d = e → ln + d < 2 ^ 30 → post (o1, o2, o3, o4, o5, o6, nI pv, nI c, sta, ob, orr, os, cl, nI (ln + d), cm_pd dg (cm_L A i d), cm_nf ff (nI k) ((cm_lf ix d i fnd ^^^ (-1)) &&& msk), sz, inp, upd mm x (cm_wr (mm x) (cm_lv mm b ix d i val) msk), K, Xs, Ys, Zs, bk, bp, bs, be, co, so, rg, tg, mk, ct, cm_pe ev ln (cm_L A i d)) → wX_load_63 post (nI k) msk (nI A) ix (nI e) (nI b) (d + 1) val fnd (nI i) o1 o2 o3 o4 o5 o6 (nI pv) (nI c) sta ob orr os cl (nI ln) dg ff sz inp mm K Xs Ys Zs bk bp bs be co so rg tg mk ct ev
  | 0, i, ln, val, fnd, dg, ev, hi, hl, h => by
    have hei : i = e := by omega
    subst hei
    have hin : vp_in (nI k) 24 := vp_in_nI hk (by decide)
    have hc : (nI k).toNatClampNeg = k := nI_clamp (by omega)
    refine br_t (nI_le (Nat.le_refl _) (by omega)) (cx_noteFault (And.intro hin ?_))
    rw [hc, hx]
    exact cx_write hx32 h
  | d + 1, i, ln, val, fnd, dg, ev, hi, hl, h => by
    refine br_f (nI_ge (by omega) (by omega)) (cx_observe (by omega) ?_)
    refine cx_eqm ?_
    rw [nI_add, nI_clamp (by omega)]
    refine And.intro (vp_in_nI (by omega) (by decide)) (nm_e (nm_e (nm_r (nI_1 i) ?_)))
    refine cx_load_l hk hx hx32 hb he d (i + 1) (ln + 1) _ _ _ _ (by omega) (by omega) ?_
    have e : ln + (d + 1) = ln + 1 + d := by omega
    rw [e] at h
    exact h
theorem cx_load {post : SX → Prop} {k A z x f d : Nat} {msk : Int32} (hk : k < 24) (hY : Ys k = nI A) (hZ : Zs k = nI z) (hz : z < 32) (hx : Xs k = nI x) (hx32 : x < 32) (hA : A = 1 ∨ A = 2) (hfd : f + d ≤ 8) (hl : ln + d < 2 ^ 30) (hF : ∀ post : Int32 → Prop, post (nI f) → wpX_firstTouched post (o1, o2, o3, o4, o5, o6, nI pv, nI c, sta, ob, orr, os, cl, nI ln, dg, ff, sz, inp, mm, K, Xs, Ys, Zs, bk, bp, bs, be, co, so, rg, tg, mk, ct, ev) (nI A) (nI z)) (hE : ∀ post : Int32 → Prop, post (nI (f + d)) → wpX_endTouched post (o1, o2, o3, o4, o5, o6, nI pv, nI c, sta, ob, orr, os, cl, nI ln, dg, ff, sz, inp, mm, K, Xs, Ys, Zs, bk, bp, bs, be, co, so, rg, tg, mk, ct, ev) (nI A) (nI z)) (h : post (o1, o2, o3, o4, o5, o6, nI pv, nI c, sta, ob, orr, os, cl, nI (ln + d), cm_pd dg (cm_L A f d), cm_nf ff (nI k) ((cm_lf (mm z) d f 0 ^^^ (-1)) &&& msk), sz, inp, upd mm x (cm_wr (mm x) (cm_lv mm (cm_ba A) (mm z) d f 0) msk), K, Xs, Ys, Zs, bk, bp, bs, be, co, so, rg, tg, mk, ct, cm_pe ev ln (cm_L A f d))) : wpX_load post (o1, o2, o3, o4, o5, o6, nI pv, nI c, sta, ob, orr, os, cl, nI ln, dg, ff, sz, inp, mm, K, Xs, Ys, Zs, bk, bp, bs, be, co, so, rg, tg, mk, ct, ev) (nI k) msk := by
  have hin : vp_in (nI k) 24 := vp_in_nI hk (by decide)
  have hc : (nI k).toNatClampNeg = k := nI_clamp (by omega)
  have hcz : (nI z).toNatClampNeg = z := nI_clamp (by omega)
  have hinz : vp_in (nI z) 32 := vp_in_nI hz (by decide)
  have hb : cm_ba A + 8 ≤ 32 := by rcases hA with rfl | rfl <;> decide
  refine And.intro hin (nm_r (e' := nI A) (by rw [hc, hY]) (And.intro hin ?_))
  rw [hc, hZ]
  refine And.intro hinz (nm_r (e' := mm z) (by rw [hcz]) (And.intro hin (hF _ (And.intro hin (hE _ (cx_base (by omega) ?_))))))
  exact ⟨d + 1, cx_load_l hk hx hx32 hb hfd d f ln 0 0 dg ev rfl hl h⟩
theorem cx_store_l {post : SX → Prop} {k A b e : Nat} {msk ix v : Int32} (hb : b + 8 ≤ 32) (he : e ≤ 8) : ∀ (d i ln : Nat) (fnd dg : Int32) (mm ev : Nat → Int32), i + d = e → ln + d < 2 ^ 30 → post (o1, o2, o3, o4, o5, o6, nI pv, nI c, sta, ob, orr, os, cl, nI (ln + d), cm_pd dg (cm_L A i d), cm_nf ff (nI k) ((cm_lf ix d i fnd ^^^ (-1)) &&& msk), sz, inp, cm_ls b v ix msk d i mm, K, Xs, Ys, Zs, bk, bp, bs, be, co, so, rg, tg, mk, ct, cm_pe ev ln (cm_L A i d)) → wX_store_73 post (nI k) msk (nI A) ix v (nI e) (nI b) (d + 1) fnd (nI i) o1 o2 o3 o4 o5 o6 (nI pv) (nI c) sta ob orr os cl (nI ln) dg ff sz inp mm K Xs Ys Zs bk bp bs be co so rg tg mk ct ev
  | 0, i, ln, fnd, dg, mm, ev, hi, hl, h => by
    have hei : i = e := by omega
    subst hei
    exact br_t (nI_le (Nat.le_refl _) (by omega)) (cx_noteFault h)
  | d + 1, i, ln, fnd, dg, mm, ev, hi, hl, h => by
    refine br_f (nI_ge (by omega) (by omega)) (cx_observe (by omega) ?_)
    refine cx_eqm ?_
    rw [nI_add]
    refine cx_write (by omega) ?_
    refine nm_e (nm_r (nI_1 i) ?_)
    refine cx_store_l hb he d (i + 1) (ln + 1) _ _ _ _ (by omega) (by omega) ?_
    have e : ln + (d + 1) = ln + 1 + d := by omega
    rw [e] at h
    exact h
theorem cx_store {post : SX → Prop} {k A y z f d : Nat} {msk : Int32} (hk : k < 24) (hX : Xs k = nI A) (hY : Ys k = nI y) (hy : y < 32) (hZ : Zs k = nI z) (hz : z < 32) (hA : A = 1 ∨ A = 2) (hfd : f + d ≤ 8) (hl : ln + d < 2 ^ 30) (hF : ∀ post : Int32 → Prop, post (nI f) → wpX_firstTouched post (o1, o2, o3, o4, o5, o6, nI pv, nI c, sta, ob, orr, os, cl, nI ln, dg, ff, sz, inp, mm, K, Xs, Ys, Zs, bk, bp, bs, be, co, so, rg, tg, mk, ct, ev) (nI A) (nI y)) (hE : ∀ post : Int32 → Prop, post (nI (f + d)) → wpX_endTouched post (o1, o2, o3, o4, o5, o6, nI pv, nI c, sta, ob, orr, os, cl, nI ln, dg, ff, sz, inp, mm, K, Xs, Ys, Zs, bk, bp, bs, be, co, so, rg, tg, mk, ct, ev) (nI A) (nI y)) (h : post (o1, o2, o3, o4, o5, o6, nI pv, nI c, sta, ob, orr, os, cl, nI (ln + d), cm_pd dg (cm_L A f d), cm_nf ff (nI k) ((cm_lf (mm y) d f 0 ^^^ (-1)) &&& msk), sz, inp, cm_ls (cm_ba A) (mm z) (mm y) msk d f mm, K, Xs, Ys, Zs, bk, bp, bs, be, co, so, rg, tg, mk, ct, cm_pe ev ln (cm_L A f d))) : wpX_store post (o1, o2, o3, o4, o5, o6, nI pv, nI c, sta, ob, orr, os, cl, nI ln, dg, ff, sz, inp, mm, K, Xs, Ys, Zs, bk, bp, bs, be, co, so, rg, tg, mk, ct, ev) (nI k) msk := by
  have hin : vp_in (nI k) 24 := vp_in_nI hk (by decide)
  have hc : (nI k).toNatClampNeg = k := nI_clamp (by omega)
  have hcz : (nI z).toNatClampNeg = z := nI_clamp (by omega)
  have hinz : vp_in (nI z) 32 := vp_in_nI hz (by decide)
  have hcy : (nI y).toNatClampNeg = y := nI_clamp (by omega)
  have hiny : vp_in (nI y) 32 := vp_in_nI hy (by decide)
  have hb : cm_ba A + 8 ≤ 32 := by rcases hA with rfl | rfl <;> decide
  refine And.intro hin (nm_r (e' := nI A) (by rw [hc, hX]) (And.intro hin ?_))
  rw [hc, hY, hZ]
  refine And.intro hiny (nm_r (e' := mm y) (by rw [hcy]) (And.intro hin (And.intro hinz (nm_r (e' := mm z) (by rw [hcz]) (And.intro hin (hF _ (And.intro hin (hE _ (cx_base (by omega) ?_)))))))))
  exact ⟨d + 1, cx_store_l hb hfd d f ln 0 dg mm ev rfl hl h⟩
theorem cx_combine {post : Int32 → Prop} {t : Nat} {a b : Int32} (h1 : 1 ≤ t) (h8 : t ≤ 8) (h : post (cm_val t a b)) : wpX_combine post (o1, o2, o3, o4, o5, o6, nI pv, nI c, sta, ob, orr, os, cl, nI ln, dg, ff, sz, inp, mm, K, Xs, Ys, Zs, bk, bp, bs, be, co, so, rg, tg, mk, ct, ev) (nI t) a b := by
  have ht : t = 1 ∨ t = 2 ∨ t = 3 ∨ t = 4 ∨ t = 5 ∨ t = 6 ∨ t = 7 ∨ t = 8 := by omega
  rcases ht with rfl | rfl | rfl | rfl | rfl | rfl | rfl | rfl
  · exact br_f (by decide) (br_f (by decide) (br_t rfl h))
  · exact br_f (by decide) (br_f (by decide) (br_f (by decide) (br_t rfl h)))
  · exact br_f (by decide) (br_f (by decide) (br_f (by decide) (br_f (by decide) (br_t rfl h))))
  · refine br_f (by decide) (br_f (by decide) (br_f (by decide) (br_f (by decide) (br_f (by decide) (br_t rfl ?_)))))
    by_cases hb : b = 0
    · have e : cm_val 4 a b = 0 := if_pos hb
      rw [e] at h
      exact br_t hb h
    · have e : cm_val 4 a b = a / b := if_neg hb
      rw [e] at h
      exact br_f hb (And.intro hb h)
  · exact br_f (by decide) (br_f (by decide) (br_f (by decide) (br_f (by decide) (br_f (by decide) (br_f (by decide) (br_t rfl h))))))
  · exact br_f (by decide) (br_f (by decide) (br_f (by decide) (br_f (by decide) (br_f (by decide) (br_f (by decide) (br_f (by decide) (br_t rfl h)))))))
  · refine br_f (by decide) (br_f (by decide) (br_f (by decide) (br_f (by decide) (br_f (by decide) (br_f (by decide) (br_f (by decide) (br_f (by decide) (br_t rfl ?_))))))))
    by_cases hb : b ≤ a
    · have e : cm_val 7 a b = 0 := if_pos hb
      rw [e] at h
      exact br_t hb h
    · have e : cm_val 7 a b = 1 := if_neg hb
      rw [e] at h
      exact br_f hb h
  · refine br_f (by decide) (br_t (by decide) (cx_eqm ?_))
    by_cases hb : a = b
    · have e : cm_val 8 a b = 1 := if_pos hb
      rw [e] at h
      rw [hb, cm_eq_t]
      exact h
    · have e : cm_val 8 a b = 0 := if_neg hb
      rw [e] at h
      rw [cm_eq_f hb]
      exact h
def cm_bd (t : Nat) (b : Int32) : Int32 := if t = 4 then cm_eq b 0 else 0
theorem cx_calc53 {post : SX → Prop} {k t x : Nat} {a b msk : Int32} (hk : k < 24) (hK : K k = nI t) (h1 : 1 ≤ t) (h8 : t ≤ 8) (hx : Xs k = nI x) (hx32 : x < 32) (h : post (o1, o2, o3, o4, o5, o6, nI pv, nI c, sta, ob, orr, os, cl, nI ln, dg, ff, sz, inp, upd mm x (cm_wr (mm x) (cm_val t a b) msk), K, Xs, Ys, Zs, bk, bp, bs, be, co, so, rg, tg, mk, ct, ev)) : wX_calculate_53 post (nI k) msk a b o1 o2 o3 o4 o5 o6 (nI pv) (nI c) sta ob orr os cl (nI ln) dg ff sz inp mm K Xs Ys Zs bk bp bs be co so rg tg mk ct ev := by
  have hin : vp_in (nI k) 24 := vp_in_nI hk (by decide)
  have hc : (nI k).toNatClampNeg = k := nI_clamp (by omega)
  refine And.intro hin ?_
  rw [hc, hK]
  refine cx_combine h1 h8 (And.intro hin ?_)
  rw [hx]
  exact cx_write hx32 h
theorem cx_calc {post : SX → Prop} {k t x y z : Nat} {msk : Int32} (hk : k < 24) (hK : K k = nI t) (h1 : 1 ≤ t) (h8 : t ≤ 8) (hx : Xs k = nI x) (hx32 : x < 32) (hY : Ys k = nI y) (hy : y < 32) (hZ : Zs k = nI z) (hz : z < 32) (h : post (o1, o2, o3, o4, o5, o6, nI pv, nI c, sta, ob, orr, os, cl, nI ln, dg, cm_nf ff (nI k) (cm_bd t (mm z) &&& msk), sz, inp, upd mm x (cm_wr (mm x) (cm_val t (mm y) (mm z)) msk), K, Xs, Ys, Zs, bk, bp, bs, be, co, so, rg, tg, mk, ct, ev)) : wpX_calculate post (o1, o2, o3, o4, o5, o6, nI pv, nI c, sta, ob, orr, os, cl, nI ln, dg, ff, sz, inp, mm, K, Xs, Ys, Zs, bk, bp, bs, be, co, so, rg, tg, mk, ct, ev) (nI k) msk := by
  have hin : vp_in (nI k) 24 := vp_in_nI hk (by decide)
  have hc : (nI k).toNatClampNeg = k := nI_clamp (by omega)
  have hcz : (nI z).toNatClampNeg = z := nI_clamp (by omega)
  have hinz : vp_in (nI z) 32 := vp_in_nI hz (by decide)
  have hcy : (nI y).toNatClampNeg = y := nI_clamp (by omega)
  have hiny : vp_in (nI y) 32 := vp_in_nI hy (by decide)
  refine And.intro hin ?_
  rw [hc, hY, hZ, hK]
  refine And.intro hiny (nm_r (e' := mm y) (by rw [hcy]) (And.intro hin (And.intro hinz (nm_r (e' := mm z) (by rw [hcz]) (And.intro hin ?_)))))
  by_cases h4 : t = 4
  · subst h4
    refine br_t rfl (cx_eqm (cx_noteFault ?_))
    exact cx_calc53 hk hK h1 h8 hx hx32 h
  · have e : cm_bd t (mm z) = 0 := if_neg h4
    rw [e, Int32.zero_and, cm_nf_0] at h
    refine br_f (fun y => h4 ((nI_eq (b := 4) (by omega) (by omega)).mp y)) ?_
    exact cx_calc53 hk hK h1 h8 hx hx32 h
/-- Y: what a plain statement does at its end -/
theorem cy_345 {post : SY → Prop} {k s : Nat} {v x5 bd msk : Int32} (hk : k ≤ 24) (hs : s < 32) (hff : ff = -1 ∨ 0 ≤ ff) (hm : cm_Mk (cm_Lv K Xs (nI pv) ch (cm_st K k)) msk) (hb : (x5 = 0 ∧ bd = 0) ∨ (x5 = 1 ∧ bd = -1)) (h : post (nI pv, nI sv, nI pc, nI sc, nI c, sta, cm_nf ff (nI k) (bd &&& msk), nI ln, K, Xs, Ys, Zs, inp, upd mm s (cm_wr (mm s) v msk), ch, lf, tr)) : wY_simple_345 post (nI k) (nI s) v x5 (nI pv) (nI sv) (nI pc) (nI sc) (nI c) sta ff (nI ln) K Xs Ys Zs inp mm ch lf tr := by
  have hins : vp_in (nI s) 32 := vp_in_nI hs (by decide)
  have hcs : (nI s).toNatClampNeg = s := nI_clamp (by omega)
  refine cy_live hk (fun hl => ?_) (fun hl => ?_)
  · rcases hm with ⟨_, rfl⟩ | ⟨y, _⟩
    · rw [cm_wr_1, Int32.and_neg_one] at h
      refine br_f (by decide) ?_
      have fin : ∀ {ff : Int32}, post (nI pv, nI sv, nI pc, nI sc, nI c, sta, ff, nI ln, K, Xs, Ys, Zs, inp, upd mm s v, ch, lf, tr) → wY_simple_371 post (nI s) v (nI pv) (nI sv) (nI pc) (nI sc) (nI c) sta ff (nI ln) K Xs Ys Zs inp mm ch lf tr := fun h => br_f (nI_pos (by omega)) (And.intro hins (nm_r (e' := upd mm s v) (by rw [hcs]) h))
      rcases hb with ⟨rfl, rfl⟩ | ⟨rfl, rfl⟩
      · rw [cm_nf_0] at h
        exact br_t rfl (fin h)
      · refine br_f (by decide) ?_
        rcases hff with rfl | hff
        · rw [cm_nf_1] at h
          exact br_f (by decide) (fin h)
        · rw [cm_nf_2 (by rintro rfl; exact absurd hff (by decide))] at h
          exact br_t hff (fin h)
    · exact absurd hl y
  · rcases hm with ⟨y, _⟩ | ⟨_, rfl⟩
    · exact absurd y hl
    · rw [cm_wr_0, cm_upd_id, Int32.and_zero, cm_nf_0] at h
      exact br_t rfl h
theorem cy_345n {post : SY → Prop} {k : Nat} {v msk : Int32} (hk : k ≤ 24) (hff : ff = -1 ∨ 0 ≤ ff) (hm : cm_Mk (cm_Lv K Xs (nI pv) ch (cm_st K k)) msk) (h : post (nI pv, nI sv, nI pc, nI sc, nI c, sta, cm_nf ff (nI k) ((-1) &&& msk), nI ln, K, Xs, Ys, Zs, inp, mm, ch, lf, tr)) : wY_simple_345 post (nI k) (-1) v 1 (nI pv) (nI sv) (nI pc) (nI sc) (nI c) sta ff (nI ln) K Xs Ys Zs inp mm ch lf tr := by
  rw [Int32.neg_one_and] at h
  refine cy_live hk (fun hl => ?_) (fun hl => ?_)
  · rcases hm with ⟨_, rfl⟩ | ⟨y, _⟩
    · refine br_f (by decide) (br_f (by decide) ?_)
      rcases hff with rfl | hff
      · rw [cm_nf_1] at h
        exact br_f (by decide) (br_t (by decide) h)
      · rw [cm_nf_2 (by rintro rfl; exact absurd hff (by decide))] at h
        exact br_t hff (br_t (by decide) h)
    · exact absurd hl y
  · rcases hm with ⟨y, _⟩ | ⟨_, rfl⟩
    · exact absurd y hl
    · rw [cm_nf_0] at h
      exact br_t rfl h
/-- Y: the calculating kinds lead to the end -/
theorem cy_calc {post : SY → Prop} {t : Nat} {k x3 a b x5 : Int32} (h1 : 1 ≤ t) (h8 : t ≤ 8) (h5 : x5 = if t = 4 then (if b = 0 then 1 else 0) else 0) (h : wY_simple_345 post k x3 (cm_val t a b) x5 (nI pv) (nI sv) (nI pc) (nI sc) (nI c) sta ff (nI ln) K Xs Ys Zs inp mm ch lf tr) : ((nI t = 1 → ∀ x4 : Int32, x4 = a + b → wY_simple_227 post k (nI t) x3 x4 0 a b (nI pv) (nI sv) (nI pc) (nI sc) (nI c) sta ff (nI ln) K Xs Ys Zs inp mm ch lf tr) ∧ (¬ nI t = 1 → wY_simple_227 post k (nI t) x3 0 0 a b (nI pv) (nI sv) (nI pc) (nI sc) (nI c) sta ff (nI ln) K Xs Ys Zs inp mm ch lf tr)) := by
  have ht : t = 1 ∨ t = 2 ∨ t = 3 ∨ t = 4 ∨ t = 5 ∨ t = 6 ∨ t = 7 ∨ t = 8 := by omega
  rcases ht with rfl | rfl | rfl | rfl | rfl | rfl | rfl | rfl
  · subst h5
    exact br_t rfl (nm_e (br_f (by decide) (br_f (by decide) (br_f (by decide) (br_f (by decide) (br_f (by decide) (br_f (by decide) (br_f (by decide) h))))))))
  · subst h5
    exact br_f (by decide) (br_t rfl (nm_e (br_f (by decide) (br_f (by decide) (br_f (by decide) (br_f (by decide) (br_f (by decide) (br_f (by decide) h))))))))
  · subst h5
    exact br_f (by decide) (br_f (by decide) (br_t rfl (nm_e (br_f (by decide) (br_f (by decide) (br_f (by decide) (br_f (by decide) (br_f (by decide) h))))))))
  · refine br_f (by decide) (br_f (by decide) (br_f (by decide) (br_t rfl ?_)))
    by_cases hb : b = 0
    · have e : cm_val 4 a b = 0 := if_pos hb
      have e5 : x5 = 1 := h5.trans (if_pos hb)
      rw [e, e5] at h
      exact br_t hb (br_t hb (br_f (by decide) (br_f (by decide) (br_f (by decide) (br_f (by decide) h)))))
    · have e : cm_val 4 a b = a / b := if_neg hb
      have e5 : x5 = 0 := h5.trans (if_neg hb)
      rw [e, e5] at h
      exact br_f hb (br_f hb (And.intro hb (nm_e (br_f (by decide) (br_f (by decide) (br_f (by decide) (br_f (by decide) h)))))))
  · subst h5
    exact br_f (by decide) (br_f (by decide) (br_f (by decide) (br_f (by decide) (br_t rfl (nm_e (br_f (by decide) (br_f (by decide) (br_f (by decide) h))))))))
  · subst h5
    exact br_f (by decide) (br_f (by decide) (br_f (by decide) (br_f (by decide) (br_f (by decide) (br_t rfl (nm_e (br_f (by decide) (br_f (by decide) h))))))))
  · subst h5
    refine br_f (by decide) (br_f (by decide) (br_f (by decide) (br_f (by decide) (br_f (by decide) (br_f (by decide) (br_t rfl ?_))))))
    by_cases hb : b ≤ a
    · have e : cm_val 7 a b = 0 := if_pos hb
      rw [e] at h
      exact br_t hb (br_f (by decide) h)
    · have e : cm_val 7 a b = 1 := if_neg hb
      rw [e] at h
      exact br_f hb (br_f (by decide) h)
  · subst h5
    refine br_f (by decide) (br_f (by decide) (br_f (by decide) (br_f (by decide) (br_f (by decide) (br_f (by decide) (br_f (by decide) (br_t rfl ?_)))))))
    by_cases hb : a = b
    · have e : cm_val 8 a b = 1 := if_pos hb
      rw [e] at h
      exact br_t hb h
    · have e : cm_val 8 a b = 0 := if_neg hb
      rw [e] at h
      exact br_f hb h
end
end
section
section
variable {o1 o2 o3 o4 o5 o6 sta ob orr os cl dg ff : Int32} {pv sv pc sc c ln : Nat} {sz inp mm K Xs Ys Zs bk bp bs be co so rg tg mk ct ev ch lf tr : Nat → Int32}
theorem cm_simple_set {k : Nat} {msk : Int32} (hb : cm_Bd pv sv pc sc) (hsz : cm_Sz pv sv pc sc sz) (hk : k < 24) (hv : cm_Vd pv sv K Xs Ys Zs k) (hln : ln + 9 ≤ 4096) (hT : cm_Tr ln dg ev tr) (hff : ff = -1 ∨ 0 ≤ ff) (hm : cm_Mk (cm_Lv K Xs (nI pv) ch (cm_st K k)) msk) (h0 : K k = 0) : ∃ (ln' : Nat) (dg' ff' : Int32) (mm' ev' tr' : Nat → Int32), cm_Tr ln' dg' ev' tr' ∧ ln' ≤ ln + 9 ∧ (ff' = -1 ∨ 0 ≤ ff') ∧ (∀ post : SX → Prop, post (o1, o2, o3, o4, o5, o6, nI pv, nI c, sta, ob, orr, os, cl, nI ln', dg', ff', sz, inp, mm', K, Xs, Ys, Zs, bk, bp, bs, be, co, so, rg, tg, mk, ct, ev') → wpX_perform post (o1, o2, o3, o4, o5, o6, nI pv, nI c, sta, ob, orr, os, cl, nI ln, dg, ff, sz, inp, mm, K, Xs, Ys, Zs, bk, bp, bs, be, co, so, rg, tg, mk, ct, ev) (nI k) msk) ∧ (∀ post : SY → Prop, post (nI pv, nI sv, nI pc, nI sc, nI c, sta, ff', nI ln', K, Xs, Ys, Zs, inp, mm', ch, lf, tr') → wpY_simple post (nI pv, nI sv, nI pc, nI sc, nI c, sta, ff, nI ln, K, Xs, Ys, Zs, inp, mm, ch, lf, tr) (nI k)) := by
  have hin : vp_in (nI k) 24 := vp_in_nI hk (by decide)
  have hc : (nI k).toNatClampNeg = k := nI_clamp (by omega)
  obtain ⟨x, hx, hX⟩ := hv.2.1 (by rw [h0]; decide) (by rw [h0]; decide) (by rw [h0]; decide)
  have hx32 : x < 32 := by obtain ⟨a, b, c, d, e⟩ := hb; omega
  refine ⟨ln + 1, dg * 31 + nI k, ff, upd mm x (cm_wr (mm x) (Ys k) msk), cm_evu ev ln (nI k), upd tr ln (nI k), cm_Tr_1 hT _, by omega, hff, fun post h => ?_, fun post h => ?_⟩
  · unfold wpX_perform
    refine cx_observe (by omega) ?_
    refine And.intro hin (br_f (by rw [hc, h0]; decide) (And.intro hin (br_f (by rw [hc, h0]; decide) (And.intro hin (br_t (by rw [hc]; exact h0) (And.intro hin (And.intro hin ?_)))))))
    rw [hc, hX]
    exact cx_write hx32 h
  · refine And.intro hin (nm_r (e' := 0) (by rw [hc]; exact h0) (And.intro hin (nm_r (e' := nI x) (by rw [hc]; exact hX) (cy_emit (by omega) (br_t rfl (And.intro hin (nm_r (e' := Ys k) (by rw [hc]) ?_)))))))
    refine cy_345 (bd := 0) (by omega) hx32 hff hm (Or.inl ⟨rfl, rfl⟩) ?_
    rw [Int32.zero_and, cm_nf_0]
    exact h
theorem cm_simple_calc {k : Nat} {msk : Int32} (hb : cm_Bd pv sv pc sc) (hsz : cm_Sz pv sv pc sc sz) (hk : k < 24) (hv : cm_Vd pv sv K Xs Ys Zs k) (hln : ln + 9 ≤ 4096) (hT : cm_Tr ln dg ev tr) (hff : ff = -1 ∨ 0 ≤ ff) (hm : cm_Mk (cm_Lv K Xs (nI pv) ch (cm_st K k)) msk) (hf : K k < 11) (h0 : K k ≠ 0) (h9 : K k ≠ 9) (h10 : K k ≠ 10) : ∃ (ln' : Nat) (dg' ff' : Int32) (mm' ev' tr' : Nat → Int32), cm_Tr ln' dg' ev' tr' ∧ ln' ≤ ln + 9 ∧ (ff' = -1 ∨ 0 ≤ ff') ∧ (∀ post : SX → Prop, post (o1, o2, o3, o4, o5, o6, nI pv, nI c, sta, ob, orr, os, cl, nI ln', dg', ff', sz, inp, mm', K, Xs, Ys, Zs, bk, bp, bs, be, co, so, rg, tg, mk, ct, ev') → wpX_perform post (o1, o2, o3, o4, o5, o6, nI pv, nI c, sta, ob, orr, os, cl, nI ln, dg, ff, sz, inp, mm, K, Xs, Ys, Zs, bk, bp, bs, be, co, so, rg, tg, mk, ct, ev) (nI k) msk) ∧ (∀ post : SY → Prop, post (nI pv, nI sv, nI pc, nI sc, nI c, sta, ff', nI ln', K, Xs, Ys, Zs, inp, mm', ch, lf, tr') → wpY_simple post (nI pv, nI sv, nI pc, nI sc, nI c, sta, ff, nI ln, K, Xs, Ys, Zs, inp, mm, ch, lf, tr) (nI k)) := by
  have hin : vp_in (nI k) 24 := vp_in_nI hk (by decide)
  have hc : (nI k).toNatClampNeg = k := nI_clamp (by omega)
  obtain ⟨x, hx, hX⟩ := hv.2.1 h10 (by intro z; rw [z] at hf; exact absurd hf (by decide)) (by intro z; rw [z] at hf; exact absurd hf (by decide))
  obtain ⟨y, hy, hY⟩ := hv.2.2.2.2.1 hf h0 h9
  obtain ⟨z, hz, hZ⟩ := hv.2.2.2.2.2 hf h0
  obtain ⟨t, ht, hK⟩ := hv.1
  have hb' := hb
  obtain ⟨b1, b2, b3, b4, -⟩ := hb'
  have ht8 : 1 ≤ t ∧ t ≤ 8 := by
    rw [hK] at hf h0 h9 h10
    have a : t < 11 := (nI_ltI (b := 11) (by omega) (by decide)).mp hf
    have b : t ≠ 0 := by rintro rfl; exact h0 rfl
    have c : t ≠ 9 := by rintro rfl; exact h9 rfl
    have d : t ≠ 10 := by rintro rfl; exact h10 rfl
    omega
  have hbd : (cm_bd t (mm z) = 0 ∨ cm_bd t (mm z) = -1) ∧ (((if t = 4 then (if mm z = 0 then 1 else 0) else 0 : Int32) = 0 ∧ cm_bd t (mm z) = 0) ∨ ((if t = 4 then (if mm z = 0 then 1 else 0) else 0 : Int32) = 1 ∧ cm_bd t (mm z) = -1)) := by
    unfold cm_bd cm_eq
    by_cases h4 : t = 4
    · rw [if_pos h4, if_pos h4]
      by_cases hz0 : mm z = 0
      · rw [if_pos hz0, if_pos hz0]; exact ⟨Or.inr rfl, Or.inr ⟨rfl, rfl⟩⟩
      · rw [if_neg hz0, if_neg hz0]; exact ⟨Or.inl rfl, Or.inl ⟨rfl, rfl⟩⟩
    · rw [if_neg h4, if_neg h4]; exact ⟨Or.inl rfl, Or.inl ⟨rfl, rfl⟩⟩
  refine ⟨ln + 1, dg * 31 + nI k, cm_nf ff (nI k) (cm_bd t (mm z) &&& msk), upd mm x (cm_wr (mm x) (cm_val t (mm y) (mm z)) msk), cm_evu ev ln (nI k), upd tr ln (nI k), cm_Tr_1 hT _, by omega, cm_nf_ok hff (nI_pos' (by omega)) ?_, fun post h => ?_, fun post h => ?_⟩
  · rcases hbd.1 with e | e
    · rw [e, Int32.zero_and]; exact Or.inl rfl
    · rw [e, Int32.neg_one_and]; exact cm_Mk_01 hm
  · unfold wpX_perform
    refine cx_observe (by omega) ?_
    refine And.intro hin (br_f (by rw [hc]; exact h9) (And.intro hin (br_f (by rw [hc]; exact h10) (And.intro hin (br_f (by rw [hc]; exact h0) ?_)))))
    exact cx_calc hk hK ht8.1 ht8.2 hX (by omega) hY (by omega) hZ (by omega) h
  · refine And.intro hin (nm_r (e' := nI t) (by rw [hc]; exact hK) (And.intro hin (nm_r (e' := nI x) (by rw [hc]; exact hX) (cy_emit (by omega) ?_))))
    rw [hK] at h0 h9 h10
    have hcz : (nI z).toNatClampNeg = z := nI_clamp (by omega)
    have hcy : (nI y).toNatClampNeg = y := nI_clamp (by omega)
    refine br_f h0 (br_f h9 (br_f h10 (And.intro hin ?_)))
    rw [hc, hY, hZ]
    refine And.intro (vp_in_nI (by omega) (by decide)) (nm_r (e' := mm y) (by rw [hcy]) (And.intro hin (And.intro (vp_in_nI (by omega) (by decide)) (nm_r (e' := mm z) (by rw [hcz]) ?_))))
    exact cy_calc ht8.1 ht8.2 rfl (cy_345 (bd := cm_bd t (mm z)) (by omega) (by omega) hff hm hbd.2 h)
theorem cm_simple_load {k : Nat} {msk : Int32} (hb : cm_Bd pv sv pc sc) (hsz : cm_Sz pv sv pc sc sz) (hk : k < 24) (hv : cm_Vd pv sv K Xs Ys Zs k) (hln : ln + 9 ≤ 4096) (hT : cm_Tr ln dg ev tr) (hff : ff = -1 ∨ 0 ≤ ff) (hm : cm_Mk (cm_Lv K Xs (nI pv) ch (cm_st K k)) msk) (h9 : K k = 9) : ∃ (ln' : Nat) (dg' ff' : Int32) (mm' ev' tr' : Nat → Int32), cm_Tr ln' dg' ev' tr' ∧ ln' ≤ ln + 9 ∧ (ff' = -1 ∨ 0 ≤ ff') ∧ (∀ post : SX → Prop, post (o1, o2, o3, o4, o5, o6, nI pv, nI c, sta, ob, orr, os, cl, nI ln', dg', ff', sz, inp, mm', K, Xs, Ys, Zs, bk, bp, bs, be, co, so, rg, tg, mk, ct, ev') → wpX_perform post (o1, o2, o3, o4, o5, o6, nI pv, nI c, sta, ob, orr, os, cl, nI ln, dg, ff, sz, inp, mm, K, Xs, Ys, Zs, bk, bp, bs, be, co, so, rg, tg, mk, ct, ev) (nI k) msk) ∧ (∀ post : SY → Prop, post (nI pv, nI sv, nI pc, nI sc, nI c, sta, ff', nI ln', K, Xs, Ys, Zs, inp, mm', ch, lf, tr') → wpY_simple post (nI pv, nI sv, nI pc, nI sc, nI c, sta, ff, nI ln, K, Xs, Ys, Zs, inp, mm, ch, lf, tr) (nI k)) := by
  have hin : vp_in (nI k) 24 := vp_in_nI hk (by decide)
  have hc : (nI k).toNatClampNeg = k := nI_clamp (by omega)
  obtain ⟨x, hx, hX⟩ := hv.2.1 (by rw [h9]; decide) (by rw [h9]; decide) (by rw [h9]; decide)
  obtain ⟨z, hz, hZ⟩ := hv.2.2.2.2.2 (by rw [h9]; decide) (by rw [h9]; decide)
  have hA' : ∃ A : Nat, (A = 1 ∨ A = 2) ∧ Ys k = nI A := by
    rcases hv.2.2.2.1 h9 with e | e
    · exact ⟨1, Or.inl rfl, e⟩
    · exact ⟨2, Or.inr rfl, e⟩
  obtain ⟨A, hA, hY⟩ := hA'
  have hb' := hb
  obtain ⟨b1, b2, b3, b4, -⟩ := hb'
  have hcz : (nI z).toNatClampNeg = z := nI_clamp (by omega)
  have hA2 : A ≤ 2 := by omega
  obtain ⟨f, d, hfd, hF, hE, hTo, hcase⟩ := cm_touch (o1 := o1) (o2 := o2) (o3 := o3) (o4 := o4) (o5 := o5) (o6 := o6) (sta := sta) (ob := ob) (orr := orr) (os := os) (cl := cl) (dg := dg * 31 + nI k) (ff := ff) (pv := pv) (c := c) (ln := ln + 1) (sz := sz) (inp := inp) (mm := mm) (K := K) (Xs := Xs) (Ys := Ys) (Zs := Zs) (bk := bk) (bp := bp) (bs := bs) (be := be) (co := co) (so := so) (rg := rg) (tg := tg) (mk := mk) (ct := ct) (ev := cm_evu ev ln (nI k)) (sv := sv) (pc := pc) (sc := sc) (ch := ch) (lf := lf) (tr := upd tr ln (nI k)) hb hsz hA (z := z) (by omega) (by omega)
  have hT2 := cm_Tr_L (cm_L A f d) (cm_Tr_1 hT (nI k))
  rw [cm_L_len] at hT2
  refine ⟨ln + 1 + d, cm_pd (dg * 31 + nI k) (cm_L A f d), cm_nf ff (nI k) ((cm_lf (mm z) d f 0 ^^^ (-1)) &&& msk), upd mm x (cm_wr (mm x) (cm_lv mm (cm_ba A) (mm z) d f 0) msk), cm_pe (cm_evu ev ln (nI k)) (ln + 1) (cm_L A f d), cm_pt (upd tr ln (nI k)) (ln + 1) (cm_L A f d), hT2, by omega, cm_nf_ok hff (nI_pos' (by omega)) ?_, fun post h => ?_, fun post h => ?_⟩
  · rcases hcase with ⟨t, t1, t2, t3, t4⟩ | ⟨n1, n2⟩
    · rw [t3, cm_lf_hit (by omega) d f t1 t2 (by omega), cm_x1, Int32.zero_and]; exact Or.inl rfl
    · rw [cm_lf_miss d f 0 n1, cm_x0, Int32.neg_one_and]; exact cm_Mk_01 hm
  · unfold wpX_perform
    refine cx_observe (by omega) ?_
    refine And.intro hin (br_t (by rw [hc]; exact h9) ?_)
    exact cx_load hk hY hZ (by omega) hX (by omega) hA hfd (by omega) hF hE h
  · refine And.intro hin (nm_r (e' := 9) (by rw [hc]; exact h9) (And.intro hin (nm_r (e' := nI x) (by rw [hc]; exact hX) (cy_emit (by omega) ?_))))
    refine br_f (by decide) (br_t rfl (And.intro hin (And.intro hin ?_)))
    rw [hc, hY, hZ]
    refine hTo _ (And.intro hin (And.intro hin (And.intro ?_ ?_)))
    · try rw [hc]
      try rw [hZ]
      exact vp_in_nI (by omega) (by decide)
    try rw [hc]
    try rw [hY]
    try rw [hZ]
    try rw [hcz]
    rcases hcase with ⟨t, t1, t2, t3, t4⟩ | ⟨n1, n2⟩
    · have hbt := cm_na_b hb hA2 t4
      rw [t3, cm_lf_hit (by omega) d f t1 t2 (by omega), cm_lv_hit (by omega) d f t1 t2 (by omega), cm_x1] at h
      rw [t3]
      refine cy_place_hit hb hA2 t4 (br_t (nI_pos' (by omega)) (br_t rfl (And.intro (vp_in_nI (by omega) (by decide)) ?_)))
      rw [nI_clamp (by omega)]
      exact cy_345 (bd := 0) (by omega) (by omega) hff hm (Or.inl ⟨rfl, rfl⟩) h
    · rw [cm_lf_miss d f 0 n1, cm_lv_miss d f 0 n1, cm_x0] at h
      refine cy_place_miss hb hA2 n2 (br_f (by decide) (br_f (by decide) ?_))
      exact cy_345 (bd := -1) (by omega) (by omega) hff hm (Or.inr ⟨rfl, rfl⟩) h
theorem cm_simple_store {k : Nat} {msk : Int32} (hb : cm_Bd pv sv pc sc) (hsz : cm_Sz pv sv pc sc sz) (hk : k < 24) (hv : cm_Vd pv sv K Xs Ys Zs k) (hln : ln + 9 ≤ 4096) (hT : cm_Tr ln dg ev tr) (hff : ff = -1 ∨ 0 ≤ ff) (hm : cm_Mk (cm_Lv K Xs (nI pv) ch (cm_st K k)) msk) (h10 : K k = 10) : ∃ (ln' : Nat) (dg' ff' : Int32) (mm' ev' tr' : Nat → Int32), cm_Tr ln' dg' ev' tr' ∧ ln' ≤ ln + 9 ∧ (ff' = -1 ∨ 0 ≤ ff') ∧ (∀ post : SX → Prop, post (o1, o2, o3, o4, o5, o6, nI pv, nI c, sta, ob, orr, os, cl, nI ln', dg', ff', sz, inp, mm', K, Xs, Ys, Zs, bk, bp, bs, be, co, so, rg, tg, mk, ct, ev') → wpX_perform post (o1, o2, o3, o4, o5, o6, nI pv, nI c, sta, ob, orr, os, cl, nI ln, dg, ff, sz, inp, mm, K, Xs, Ys, Zs, bk, bp, bs, be, co, so, rg, tg, mk, ct, ev) (nI k) msk) ∧ (∀ post : SY → Prop, post (nI pv, nI sv, nI pc, nI sc, nI c, sta, ff', nI ln', K, Xs, Ys, Zs, inp, mm', ch, lf, tr') → wpY_simple post (nI pv, nI sv, nI pc, nI sc, nI c, sta, ff, nI ln, K, Xs, Ys, Zs, inp, mm, ch, lf, tr) (nI k)) := by
  have hin : vp_in (nI k) 24 := vp_in_nI hk (by decide)
  have hc : (nI k).toNatClampNeg = k := nI_clamp (by omega)
  obtain ⟨y, hy, hY⟩ := hv.2.2.2.2.1 (by rw [h10]; decide) (by rw [h10]; decide) (by rw [h10]; decide)
  obtain ⟨z, hz, hZ⟩ := hv.2.2.2.2.2 (by rw [h10]; decide) (by rw [h10]; decide)
  have hA' : ∃ A : Nat, (A = 1 ∨ A = 2) ∧ Xs k = nI A := by
    rcases hv.2.2.1 h10 with e | e
    · exact ⟨1, Or.inl rfl, e⟩
    · exact ⟨2, Or.inr rfl, e⟩
  obtain ⟨A, hA, hX⟩ := hA'
  have hb' := hb
  obtain ⟨b1, b2, b3, b4, -⟩ := hb'
  have hcz : (nI z).toNatClampNeg = z := nI_clamp (by omega)
  have hcy : (nI y).toNatClampNeg = y := nI_clamp (by omega)
  have hA2 : A ≤ 2 := by omega
  obtain ⟨f, d, hfd, hF, hE, hTo, hcase⟩ := cm_touch (o1 := o1) (o2 := o2) (o3 := o3) (o4 := o4) (o5 := o5) (o6 := o6) (sta := sta) (ob := ob) (orr := orr) (os := os) (cl := cl) (dg := dg * 31 + nI k) (ff := ff) (pv := pv) (c := c) (ln := ln + 1) (sz := sz) (inp := inp) (mm := mm) (K := K) (Xs := Xs) (Ys := Ys) (Zs := Zs) (bk := bk) (bp := bp) (bs := bs) (be := be) (co := co) (so := so) (rg := rg) (tg := tg) (mk := mk) (ct := ct) (ev := cm_evu ev ln (nI k)) (sv := sv) (pc := pc) (sc := sc) (ch := ch) (lf := lf) (tr := upd tr ln (nI k)) hb hsz hA (z := y) (by omega) (by omega)
  have hT2 := cm_Tr_L (cm_L A f d) (cm_Tr_1 hT (nI k))
  rw [cm_L_len] at hT2
  refine ⟨ln + 1 + d, cm_pd (dg * 31 + nI k) (cm_L A f d), cm_nf ff (nI k) ((cm_lf (mm y) d f 0 ^^^ (-1)) &&& msk), cm_ls (cm_ba A) (mm z) (mm y) msk d f mm, cm_pe (cm_evu ev ln (nI k)) (ln + 1) (cm_L A f d), cm_pt (upd tr ln (nI k)) (ln + 1) (cm_L A f d), hT2, by omega, cm_nf_ok hff (nI_pos' (by omega)) ?_, fun post h => ?_, fun post h => ?_⟩
  · rcases hcase with ⟨t, t1, t2, t3, t4⟩ | ⟨n1, n2⟩
    · rw [t3, cm_lf_hit (by omega) d f t1 t2 (by omega), cm_x1, Int32.zero_and]; exact Or.inl rfl
    · rw [cm_lf_miss d f 0 n1, cm_x0, Int32.neg_one_and]; exact cm_Mk_01 hm
  · unfold wpX_perform
    refine cx_observe (by omega) ?_
    refine And.intro hin (br_f (by rw [hc, h10]; decide) (And.intro hin (br_t (by rw [hc]; exact h10) ?_)))
    exact cx_store hk hX hY (by omega) hZ (by omega) hA hfd (by omega) hF hE h
  · refine And.intro hin (nm_r (e' := 10) (by rw [hc]; exact h10) (And.intro hin (nm_r (e' := nI A) (by rw [hc]; exact hX) (cy_emit (by omega) ?_))))
    refine br_f (by decide) (br_f (by decide) (br_t rfl (And.intro hin (And.intro hin ?_))))
    rw [hc, hX, hY]
    refine hTo _ (And.intro hin (And.intro hin (And.intro ?_ ?_)))
    · try rw [hc]
      try rw [hY]
      exact vp_in_nI (by omega) (by decide)
    try rw [hc]
    try rw [hX]
    try rw [hY]
    try rw [hcy]
    rcases hcase with ⟨t, t1, t2, t3, t4⟩ | ⟨n1, n2⟩
    · have hbt := cm_na_b hb hA2 t4
      rw [t3, cm_lf_hit (by omega) d f t1 t2 (by omega), cm_ls_hit (by omega) d f mm t1 t2 (by omega), cm_x1] at h
      rw [t3]
      refine cy_place_hit hb hA2 t4 (br_t (nI_pos' (by omega)) (And.intro hin ?_))
      rw [hc, hZ]
      refine And.intro (vp_in_nI (by omega) (by decide)) (nm_r (e' := mm z) (by rw [hcz]) ?_)
      exact cy_345 (bd := 0) (by omega) (by omega) hff hm (Or.inl ⟨rfl, rfl⟩) h
    · rw [cm_lf_miss d f 0 n1, cm_ls_miss d f mm n1, cm_x0] at h
      refine cy_place_miss hb hA2 n2 (br_f (by decide) (And.intro hin ?_))
      rw [hc, hZ]
      refine And.intro (vp_in_nI (by omega) (by decide)) (nm_r (e' := mm z) (by rw [hcz]) ?_)
      exact cy_345n (by omega) hff hm h
theorem cm_simple {k : Nat} {msk : Int32} (hb : cm_Bd pv sv pc sc) (hsz : cm_Sz pv sv pc sc sz) (hk : k < 24) (hv : cm_Vd pv sv K Xs Ys Zs k) (hln : ln + 9 ≤ 4096) (hT : cm_Tr ln dg ev tr) (hff : ff = -1 ∨ 0 ≤ ff) (hm : cm_Mk (cm_Lv K Xs (nI pv) ch (cm_st K k)) msk) (hf : K k < 11) : ∃ (ln' : Nat) (dg' ff' : Int32) (mm' ev' tr' : Nat → Int32), cm_Tr ln' dg' ev' tr' ∧ ln' ≤ ln + 9 ∧ (ff' = -1 ∨ 0 ≤ ff') ∧ (∀ post : SX → Prop, post (o1, o2, o3, o4, o5, o6, nI pv, nI c, sta, ob, orr, os, cl, nI ln', dg', ff', sz, inp, mm', K, Xs, Ys, Zs, bk, bp, bs, be, co, so, rg, tg, mk, ct, ev') → wpX_perform post (o1, o2, o3, o4, o5, o6, nI pv, nI c, sta, ob, orr, os, cl, nI ln, dg, ff, sz, inp, mm, K, Xs, Ys, Zs, bk, bp, bs, be, co, so, rg, tg, mk, ct, ev) (nI k) msk) ∧ (∀ post : SY → Prop, post (nI pv, nI sv, nI pc, nI sc, nI c, sta, ff', nI ln', K, Xs, Ys, Zs, inp, mm', ch, lf, tr') → wpY_simple post (nI pv, nI sv, nI pc, nI sc, nI c, sta, ff, nI ln, K, Xs, Ys, Zs, inp, mm, ch, lf, tr) (nI k)) := by
  by_cases h0 : K k = 0
  · exact cm_simple_set hb hsz hk hv hln hT hff hm h0
  · by_cases h9 : K k = 9
    · exact cm_simple_load hb hsz hk hv hln hT hff hm h9
    · by_cases h10 : K k = 10
      · exact cm_simple_store hb hsz hk hv hln hT hff hm h10
      · exact cm_simple_calc hb hsz hk hv hln hT hff hm hf h0 h9 h10
end
end
section
/-- the REPEATs of a stack, innermost first -/
def cm_rs (K : Nat → Int32) : List (Nat × Nat) → List Nat
  | [] => []
  | e :: t => if K e.1 = 13 then e.1 :: cm_rs K t else cm_rs K t
def cm_rp (K : Nat → Int32) (k : Nat) : List Nat := cm_rs K (cm_st K k)
theorem cm_rs_t {K : Nat → Int32} {e : Nat × Nat} {t : List (Nat × Nat)} (h : K e.1 = 13) : cm_rs K (e :: t) = e.1 :: cm_rs K t := if_pos h
theorem cm_rs_f {K : Nat → Int32} {e : Nat × Nat} {t : List (Nat × Nat)} (h : K e.1 ≠ 13) : cm_rs K (e :: t) = cm_rs K t := if_neg h
theorem cm_rs_mem {K : Nat → Int32} {p : Nat} : ∀ {S : List (Nat × Nat)}, p ∈ cm_rs K S ↔ (∃ e, e ∈ S ∧ e.1 = p) ∧ K p = 13
  | [] => by simp [cm_rs]
  | e :: t => by
    have ih := cm_rs_mem (K := K) (p := p) (S := t)
    by_cases h : K e.1 = 13
    · rw [cm_rs_t h, List.mem_cons, ih]
      constructor
      · rintro (rfl | ⟨⟨x, hx, hp⟩, hK⟩)
        · exact ⟨⟨e, List.mem_cons_self .., rfl⟩, h⟩
        · exact ⟨⟨x, List.mem_cons_of_mem _ hx, hp⟩, hK⟩
      · rintro ⟨⟨x, hx, hp⟩, hK⟩
        rcases List.mem_cons.mp hx with rfl | hx
        · exact Or.inl hp.symm
        · exact Or.inr ⟨⟨x, hx, hp⟩, hK⟩
    · rw [cm_rs_f h, ih]
      constructor
      · rintro ⟨⟨x, hx, hp⟩, hK⟩
        exact ⟨⟨x, List.mem_cons_of_mem _ hx, hp⟩, hK⟩
      · rintro ⟨⟨x, hx, hp⟩, hK⟩
        rcases List.mem_cons.mp hx with rfl | hx
        · rw [hp] at h; exact absurd hK h
        · exact ⟨⟨x, hx, hp⟩, hK⟩
theorem cm_rp_mem {K : Nat → Int32} {p i : Nat} : p ∈ cm_rp K i ↔ cm_In K p i ∧ K p = 13 := cm_rs_mem
theorem cm_rp_lt {K : Nat → Int32} {p i : Nat} (h : p ∈ cm_rp K i) : p < i := cm_In_lt (cm_rp_mem.mp h).1
theorem cm_rs_len {K : Nat → Int32} : ∀ {S : List (Nat × Nat)}, (cm_rs K S).length = cm_cp (cm_isK K 13) S
  | [] => rfl
  | e :: t => by
    rw [cm_cp_c]
    by_cases h : K e.1 = 13
    · rw [cm_rs_t h, if_pos (cm_isK_t h), List.length_cons, cm_rs_len]
    · rw [cm_rs_f h, if_neg (cm_isK_f h), cm_rs_len]; rfl
theorem cm_rs_app {K : Nat → Int32} {S : List (Nat × Nat)} : ∀ {pre : List (Nat × Nat)}, cm_rs K (pre ++ S) = cm_rs K pre ++ cm_rs K S
  | [] => rfl
  | e :: t => by
    show cm_rs K (e :: (t ++ S)) = _
    by_cases h : K e.1 = 13
    · rw [cm_rs_t h, cm_rs_t h, cm_rs_app]; rfl
    · rw [cm_rs_f h, cm_rs_f h, cm_rs_app]
theorem cm_Ch_pre {j q : Nat} {S : List (Nat × Nat)} : ∀ {pre : List (Nat × Nat)} {m : Nat}, cm_Ch m (pre ++ (j, q) :: S) → ∀ e, e ∈ pre → q < e.1
  | [], _, _, e, he => by simp at he
  | d :: pre, m, hc, e, he => by
    have hc : cm_Ch m (d :: (pre ++ (j, q) :: S)) := hc
    rcases List.mem_cons.mp he with rfl | he
    · exact (cm_Ch_lt (e := (j, q)) hc.2.2 (by simp)).2
    · exact cm_Ch_pre hc.2.2 e he
theorem cm_rp_c {K : Nat → Int32} {i p : Nat} {t : List Nat} (h : cm_rp K i = p :: t) : t = cm_rp K p ∧ p < i ∧ K p = 13 ∧ cm_In K p i := by
  have hm : p ∈ cm_rp K i := by rw [h]; exact List.mem_cons_self ..
  obtain ⟨hin, hp⟩ := cm_rp_mem.mp hm
  obtain ⟨pre, q, e, hq⟩ := cm_block hin
  refine ⟨?_, cm_In_lt hin, hp, hin⟩
  have e2 : cm_rp K i = cm_rs K pre ++ p :: cm_rp K p := by
    show cm_rs K (cm_st K i) = _
    rw [e, cm_rs_app, cm_rs_t (e := (p, q)) hp]; rfl
  rw [h] at e2
  match hr : cm_rs K pre with
  | [] =>
    rw [hr] at e2
    injection e2 with _ e2
  | p' :: t' =>
    rw [hr] at e2
    injection e2 with e1 _
    have : p' ∈ cm_rs K pre := by rw [hr]; exact List.mem_cons_self ..
    obtain ⟨⟨x, hx, hxp⟩, _⟩ := cm_rs_mem.mp this
    have hc := cm_Ch_st K i
    rw [e] at hc
    have := cm_Ch_pre hc x hx
    omega
theorem cm_rp_max {K : Nat → Int32} {i p j : Nat} {t : List Nat} (h : cm_rp K i = p :: t) (hj : j ∈ cm_rp K i) : j ≤ p := by
  obtain ⟨e, _⟩ := cm_rp_c h
  rw [h, e] at hj
  rcases List.mem_cons.mp hj with rfl | hj
  · exact Nat.le_refl _
  · exact Nat.le_of_lt (cm_rp_lt hj)
/-- the visits of statement i that are still to come, at most -/
def cm_nv (a : Nat) (B : List Nat) (l : Nat → Nat) : List Nat → Nat → Nat
  | [], i => if a ≤ i then 1 else 0
  | p :: t, i => 4 * cm_nv a B l t p + (if p ∈ B then (l p - 1) + (if a ≤ i then 1 else 0) else 0)
def cm_N (K : Nat → Int32) (a : Nat) (B : List Nat) (l : Nat → Nat) (i : Nat) : Nat := cm_nv a B l (cm_rp K i) i
theorem cm_N0 {K : Nat → Int32} {a : Nat} {B : List Nat} {l : Nat → Nat} {i : Nat} (h : cm_rp K i = []) : cm_N K a B l i = (if a ≤ i then 1 else 0) := by
  unfold cm_N; rw [h]; rfl
theorem cm_N1 {K : Nat → Int32} {a : Nat} {B : List Nat} {l : Nat → Nat} {i p : Nat} {t : List Nat} (h : cm_rp K i = p :: t) : cm_N K a B l i = 4 * cm_N K a B l p + (if p ∈ B then (l p - 1) + (if a ≤ i then 1 else 0) else 0) := by
  unfold cm_N
  rw [h]
  show 4 * cm_nv a B l t p + _ = _
  rw [(cm_rp_c h).1]
theorem cm_ge_le {a a' i : Nat} (h : a ≤ i ∨ i < a') : (if a' ≤ i then 1 else 0) ≤ (if a ≤ i then 1 else 0) := by
  by_cases h1 : a' ≤ i
  · rw [if_pos h1, if_pos (by omega)]; exact Nat.le_refl _
  · rw [if_neg h1]; exact Nat.zero_le _
/-- a step onward, no REPEAT entered or left -/
theorem cm_N_a {K : Nat → Int32} {a a' : Nat} {l : Nat → Nat} (ha : a < a') : ∀ i, cm_N K a' (cm_rp K a) l i ≤ cm_N K a (cm_rp K a) l i ∧ (i = a → cm_N K a' (cm_rp K a) l i < cm_N K a (cm_rp K a) l i) := by
  intro i
  induction i using Nat.strongRecOn with
  | ind i ih =>
    have hg : (if a' ≤ i then 1 else 0) ≤ (if a ≤ i then 1 else 0) := cm_ge_le (by omega)
    match hr : cm_rp K i with
    | [] =>
      rw [cm_N0 hr, cm_N0 hr]
      refine ⟨hg, ?_⟩
      rintro rfl
      rw [if_neg (by omega), if_pos (Nat.le_refl _)]; omega
    | p :: t =>
      obtain ⟨ih1, _⟩ := ih p (cm_rp_c hr).2.1
      rw [cm_N1 hr, cm_N1 hr]
      refine ⟨?_, ?_⟩
      · by_cases hp : p ∈ cm_rp K a
        · rw [if_pos hp, if_pos hp]; omega
        · rw [if_neg hp, if_neg hp]; omega
      · rintro rfl
        have hp : p ∈ cm_rp K i := by rw [hr]; exact List.mem_cons_self ..
        rw [if_pos hp, if_pos hp, if_neg (by omega), if_pos (Nat.le_refl _)]; omega
/-- a REPEAT is entered -/
theorem cm_N_b {K : Nat → Int32} {k n : Nat} {l l' : Nat → Nat} (hn : n ≤ 4) (hk : l' k = n) (ho : ∀ p, p ≠ k → l' p = l p) : ∀ i, cm_N K (k + 1) (k :: cm_rp K k) l' i ≤ cm_N K k (cm_rp K k) l i ∧ (i = k → cm_N K (k + 1) (k :: cm_rp K k) l' i < cm_N K k (cm_rp K k) l i) := by
  intro i
  induction i using Nat.strongRecOn with
  | ind i ih =>
    have hg : (if k + 1 ≤ i then 1 else 0) ≤ (if k ≤ i then 1 else 0) := cm_ge_le (by omega)
    match hr : cm_rp K i with
    | [] =>
      rw [cm_N0 hr, cm_N0 hr]
      refine ⟨hg, ?_⟩
      rintro rfl
      rw [if_neg (by omega), if_pos (Nat.le_refl _)]; omega
    | p :: t =>
      obtain ⟨ht, hpi, hp13, _⟩ := cm_rp_c hr
      obtain ⟨ih1, ih2⟩ := ih p hpi
      rw [cm_N1 hr, cm_N1 hr]
      by_cases hpk : p = k
      · subst hpk
        have ih2 := ih2 rfl
        have hno : ¬ p ∈ cm_rp K p := fun z => Nat.lt_irrefl _ (cm_rp_lt z)
        rw [if_pos (List.mem_cons_self ..), if_neg hno, hk]
        have : (if p + 1 ≤ i then 1 else 0) ≤ 1 := by split <;> omega
        exact ⟨by omega, fun z => by omega⟩
      · have hiff : p ∈ k :: cm_rp K k ↔ p ∈ cm_rp K k := by
          rw [List.mem_cons]; exact ⟨fun z => z.resolve_left hpk, Or.inr⟩
        rw [ho p hpk]
        refine ⟨?_, ?_⟩
        · by_cases hp : p ∈ cm_rp K k
          · rw [if_pos hp, if_pos (hiff.mpr hp)]; omega
          · rw [if_neg hp, if_neg (fun z => hp (hiff.mp z))]; omega
        · rintro rfl
          have hp : p ∈ cm_rp K i := by rw [hr]; exact List.mem_cons_self ..
          rw [if_pos hp, if_pos (hiff.mpr hp), if_neg (by omega), if_pos (Nat.le_refl _)]; omega
/-- an END goes back to its REPEAT -/
theorem cm_N_c {K : Nat → Int32} {e j : Nat} {l l' : Nat → Nat} (hj : cm_In K j e) (hB : cm_rp K e = j :: cm_rp K j) (hl : 2 ≤ l j) (hl' : l' j = l j - 1) (ho : ∀ p, p ≠ j → l' p = l p) : ∀ i, cm_N K (j + 1) (j :: cm_rp K j) l' i ≤ cm_N K e (j :: cm_rp K j) l i ∧ (i = e → cm_N K (j + 1) (j :: cm_rp K j) l' i < cm_N K e (j :: cm_rp K j) l i) := by
  intro i
  have hj13 := (cm_rp_c hB).2.2.1
  have hje := cm_In_lt hj
  have inb : j < i → i < e → j ∈ cm_rp K i := fun h1 h2 => cm_rp_mem.mpr ⟨cm_In_mono h1 (by omega) hj, hj13⟩
  induction i using Nat.strongRecOn with
  | ind i ih =>
    match hr : cm_rp K i with
    | [] =>
      rw [cm_N0 hr, cm_N0 hr]
      refine ⟨cm_ge_le ?_, ?_⟩
      · rcases Nat.lt_or_ge i e with z | z
        · rcases Nat.lt_or_ge j i with y | y
          · have := inb y z
            rw [hr] at this; simp at this
          · omega
        · omega
      · rintro rfl; rw [hB] at hr; simp at hr
    | p :: t =>
      obtain ⟨ht, hpi, hp13, _⟩ := cm_rp_c hr
      obtain ⟨ih1, _⟩ := ih p hpi (fun h1 h2 => cm_rp_mem.mpr ⟨cm_In_mono h1 (by omega) hj, hj13⟩)
      rw [cm_N1 hr, cm_N1 hr]
      by_cases hpj : p = j
      · subst hpj
        rw [if_pos (List.mem_cons_self ..), if_pos (List.mem_cons_self ..), hl', if_pos (by omega)]
        refine ⟨by omega, ?_⟩
        rintro rfl
        rw [if_pos (Nat.le_refl _)]; omega
      · rw [ho p hpj]
        refine ⟨?_, ?_⟩
        · by_cases hp : p ∈ j :: cm_rp K j
          · rw [if_pos hp, if_pos hp]
            have hpr : p ∈ cm_rp K j := (List.mem_cons.mp hp).resolve_left hpj
            have hlt := cm_rp_lt hpr
            have : (if j + 1 ≤ i then 1 else 0) ≤ (if e ≤ i then 1 else 0) := by
              apply cm_ge_le
              rcases Nat.lt_or_ge i e with z | z
              · rcases Nat.lt_or_ge j i with y | y
                · have := cm_rp_max hr (inb y z)
                  omega
                · omega
              · omega
            omega
          · rw [if_neg hp, if_neg hp]; omega
        · rintro rfl
          rw [hB] at hr
          injection hr with z _
          exact absurd z.symm hpj
/-- an END leaves its REPEAT -/
theorem cm_N_d {K : Nat → Int32} {e j : Nat} {l l' : Nat → Nat} (hB : cm_rp K e = j :: cm_rp K j) (ho : ∀ p, p ≠ j → l' p = l p) : ∀ i, cm_N K (e + 1) (cm_rp K j) l' i ≤ cm_N K e (j :: cm_rp K j) l i ∧ (i = e → cm_N K (e + 1) (cm_rp K j) l' i < cm_N K e (j :: cm_rp K j) l i) := by
  intro i
  induction i using Nat.strongRecOn with
  | ind i ih =>
    have hg : (if e + 1 ≤ i then 1 else 0) ≤ (if e ≤ i then 1 else 0) := cm_ge_le (by omega)
    match hr : cm_rp K i with
    | [] =>
      rw [cm_N0 hr, cm_N0 hr]
      refine ⟨hg, ?_⟩
      rintro rfl; rw [hB] at hr; simp at hr
    | p :: t =>
      obtain ⟨ht, hpi, hp13, _⟩ := cm_rp_c hr
      obtain ⟨ih1, _⟩ := ih p hpi
      rw [cm_N1 hr, cm_N1 hr]
      by_cases hpj : p = j
      · subst hpj
        have hno : ¬ p ∈ cm_rp K p := fun z => Nat.lt_irrefl _ (cm_rp_lt z)
        rw [if_pos (List.mem_cons_self ..), if_neg hno]
        refine ⟨by omega, ?_⟩
        rintro rfl
        rw [if_pos (Nat.le_refl _)]; omega
      · have hiff : p ∈ j :: cm_rp K j ↔ p ∈ cm_rp K j := by
          rw [List.mem_cons]; exact ⟨fun z => z.resolve_left hpj, Or.inr⟩
        rw [ho p hpj]
        refine ⟨?_, ?_⟩
        · by_cases hp : p ∈ cm_rp K j
          · rw [if_pos hp, if_pos (hiff.mpr hp)]; omega
          · rw [if_neg hp, if_neg (fun z => hp (hiff.mp z))]; omega
        · rintro rfl
          rw [hB] at hr
          injection hr with z _
          exact absurd z.symm hpj
def cm_sm (f : Nat → Nat) : Nat → Nat
  | 0 => 0
  | n + 1 => cm_sm f n + f n
theorem cm_sm_le {f g : Nat → Nat} (h : ∀ i, f i ≤ g i) : ∀ n, cm_sm f n ≤ cm_sm g n
  | 0 => Nat.le_refl _
  | n + 1 => Nat.add_le_add (cm_sm_le h n) (h n)
theorem cm_sm_lt {f g : Nat → Nat} {a : Nat} (h : ∀ i, f i ≤ g i ∧ (i = a → f i < g i)) : ∀ n, a < n → cm_sm f n < cm_sm g n
  | 0, ha => absurd ha (Nat.not_lt_zero _)
  | n + 1, ha => by
    show cm_sm f n + f n < cm_sm g n + g n
    by_cases hn : n = a
    · have := (h n).2 hn
      have := cm_sm_le (fun i => (h i).1) n
      omega
    · have := cm_sm_lt h n (by omega)
      have := (h n).1
      omega
theorem cm_sm_b {f : Nat → Nat} {m : Nat} : ∀ n, (∀ i, i < n → f i ≤ m) → cm_sm f n ≤ m * n
  | 0, _ => Nat.zero_le _
  | n + 1, h => by
    have a := cm_sm_b n (fun i hi => h i (by omega))
    have b := h n (by omega)
    show cm_sm f n + f n ≤ m * (n + 1)
    rw [Nat.mul_add]; omega
theorem cm_N_0 {K : Nat → Int32} {l : Nat → Nat} : ∀ i, cm_N K 0 [] l i ≤ 4 ^ (cm_rp K i).length := by
  intro i
  induction i using Nat.strongRecOn with
  | ind i ih =>
    match hr : cm_rp K i with
    | [] =>
      rw [cm_N0 hr]
      split <;> simp
    | p :: t =>
      obtain ⟨ht, hpi, _, _⟩ := cm_rp_c hr
      have := ih p hpi
      rw [cm_N1 hr, ht, if_neg (by simp), List.length_cons, Nat.pow_succ]
      omega
/-- the run's measure -/
def cm_M (K : Nat → Int32) (c a : Nat) (lf : Nat → Int32) : Nat := cm_sm (cm_N K a (cm_rp K a) (fun p => (lf p).toNatClampNeg)) c
theorem cm_M_a {K lf : Nat → Int32} {c a a' : Nat} (ha : a < a') (hc : a < c) (hr : cm_rp K a' = cm_rp K a) : cm_M K c a' lf < cm_M K c a lf := by
  unfold cm_M
  rw [hr]
  exact cm_sm_lt (cm_N_a ha) c hc
theorem cm_M_b {K lf : Nat → Int32} {c k n : Nat} (hc : k < c) (hK : K k = 13) (hn : n ≤ 4) : cm_M K c (k + 1) (upd lf k (nI n)) < cm_M K c k lf := by
  unfold cm_M
  have hr : cm_rp K (k + 1) = k :: cm_rp K k := by
    show cm_rs K (cm_st K (k + 1)) = _
    rw [cm_st_push (Or.inr hK), cm_rs_t (e := (k, k)) hK]; rfl
  rw [hr]
  refine cm_sm_lt (cm_N_b (n := n) hn ?_ ?_) c hc
  · show (upd lf k (nI n) k).toNatClampNeg = n
    rw [pk_us]; exact nI_clamp (by omega)
  · intro p hp
    show (upd lf k (nI n) p).toNatClampNeg = (lf p).toNatClampNeg
    rw [pk_un hp]
theorem cm_rp_hd {K : Nat → Int32} {e j q : Nat} {t : List (Nat × Nat)} (hS : cm_st K e = (j, q) :: t) (hj : K j = 13) : cm_rp K e = j :: cm_rp K j := by
  show cm_rs K (cm_st K e) = _
  rw [hS, cm_rs_t (e := (j, q)) hj, (cm_hd hS).1]; rfl
theorem cm_M_c {K lf : Nat → Int32} {c e j q n : Nat} {t : List (Nat × Nat)} (hc : e < c) (hS : cm_st K e = (j, q) :: t) (hj : K j = 13) (hn : n ≤ 4) (hn2 : 2 ≤ n) (hl : lf j = nI n) : cm_M K c (j + 1) (upd lf j (nI (n - 1))) < cm_M K c e lf := by
  unfold cm_M
  have hr : cm_rp K (j + 1) = j :: cm_rp K j := by
    show cm_rs K (cm_st K (j + 1)) = _
    rw [cm_st_push (Or.inr hj), cm_rs_t (e := (j, j)) hj]; rfl
  have hB := cm_rp_hd hS hj
  rw [hr, hB]
  have hlc : (lf j).toNatClampNeg = n := by rw [hl]; exact nI_clamp (by omega)
  refine cm_sm_lt (cm_N_c (cm_Hd_In ⟨q, t, hS⟩) hB ?_ ?_ ?_) c hc
  · show 2 ≤ (lf j).toNatClampNeg
    omega
  · show (upd lf j (nI (n - 1)) j).toNatClampNeg = (lf j).toNatClampNeg - 1
    rw [pk_us, hlc]; exact nI_clamp (by omega)
  · intro p hp
    show (upd lf j (nI (n - 1)) p).toNatClampNeg = (lf p).toNatClampNeg
    rw [pk_un hp]
theorem cm_M_d {K lf : Nat → Int32} {c e j q : Nat} {v : Int32} {t : List (Nat × Nat)} (hc : e < c) (hK : K e = 14) (hS : cm_st K e = (j, q) :: t) (hj : K j = 13) : cm_M K c (e + 1) (upd lf j v) < cm_M K c e lf := by
  unfold cm_M
  have hr : cm_rp K (e + 1) = cm_rp K j := by
    show cm_rs K (cm_st K (e + 1)) = _
    rw [cm_st_end hK, hS]
    show cm_rs K t = _
    rw [(cm_hd hS).1]; rfl
  have hB := cm_rp_hd hS hj
  rw [hr, hB]
  refine cm_sm_lt (cm_N_d hB ?_) c hc
  intro p hp
  show (upd lf j v p).toNatClampNeg = (lf p).toNatClampNeg
  rw [pk_un hp]
theorem cm_M_0 {K lf : Nat → Int32} {c : Nat} (h : ∀ i, i < c → cm_cp (cm_isK K 13) (cm_st K i) ≤ 2) : cm_M K c 0 lf ≤ 16 * c := by
  unfold cm_M
  refine cm_sm_b c (fun i hi => ?_)
  have a := cm_N_0 (K := K) (l := fun p => (lf p).toNatClampNeg) i
  have b : (cm_rp K i).length ≤ 2 := by
    have := h i hi
    show (cm_rs K (cm_st K i)).length ≤ 2
    rw [cm_rs_len]; exact this
  have d : 4 ^ (cm_rp K i).length ≤ 4 ^ 2 := Nat.pow_le_pow_right (by decide) b
  exact Nat.le_trans a d
end
section
/-- X's masks over a stack -/
def cm_MK (K Xs : Nat → Int32) (P : Int32) (ch mk : Nat → Int32) : List (Nat × Nat) → Prop
  | [] => mk 0 = -1
  | e :: t => cm_Mk (cm_Lv K Xs P ch (e :: t)) (mk (cm_cp (cm_sec K Xs P) (e :: t))) ∧ (cm_sec K Xs P e.1 = true → ch e.1 = 0 ∨ ch e.1 = 1) ∧ cm_MK K Xs P ch mk t
theorem cm_MK_hd {K Xs : Nat → Int32} {P : Int32} {ch mk : Nat → Int32} : ∀ {S : List (Nat × Nat)}, cm_MK K Xs P ch mk S → cm_Mk (cm_Lv K Xs P ch S) (mk (cm_cp (cm_sec K Xs P) S))
  | [], h => Or.inl ⟨fun e he => by simp at he, h⟩
  | _ :: _, h => h.1
theorem cm_Lv_c {K Xs : Nat → Int32} {P : Int32} {ch : Nat → Int32} {e : Nat × Nat} {t : List (Nat × Nat)} : cm_Lv K Xs P ch (e :: t) ↔ (cm_sec K Xs P e.1 = true → ch e.1 = (if e.2 = e.1 then 1 else 0)) ∧ cm_Lv K Xs P ch t := by
  constructor
  · exact fun h => ⟨h e (List.mem_cons_self ..), fun x hx => h x (List.mem_cons_of_mem _ hx)⟩
  · rintro ⟨h1, h2⟩ x hx
    rcases List.mem_cons.mp hx with rfl | hx
    · exact h1
    · exact h2 x hx
theorem cm_Lv_fr {K Xs : Nat → Int32} {P : Int32} {ch ch' : Nat → Int32} {S : List (Nat × Nat)} (h : ∀ e, e ∈ S → ch' e.1 = ch e.1) : cm_Lv K Xs P ch' S ↔ cm_Lv K Xs P ch S := by
  constructor
  · intro z e he hs; rw [← h e he]; exact z e he hs
  · intro z e he hs; rw [h e he]; exact z e he hs
theorem cm_Mk_iff {L L' : Prop} {m : Int32} (h : L ↔ L') (z : cm_Mk L m) : cm_Mk L' m := z.elim (fun y => Or.inl ⟨h.mp y.1, y.2⟩) (fun y => Or.inr ⟨fun x => y.1 (h.mpr x), y.2⟩)
theorem cm_MK_fr {K Xs : Nat → Int32} {P : Int32} {ch ch' mk mk' : Nat → Int32} : ∀ {S : List (Nat × Nat)}, (∀ e, e ∈ S → ch' e.1 = ch e.1) → (∀ i, i ≤ cm_cp (cm_sec K Xs P) S → mk' i = mk i) → cm_MK K Xs P ch mk S → cm_MK K Xs P ch' mk' S
  | [], _, h2, h => (h2 0 (Nat.le_refl _)).trans h
  | e :: t, h1, h2, ⟨a, b, d⟩ => by
    refine ⟨?_, ?_, cm_MK_fr (fun x hx => h1 x (List.mem_cons_of_mem _ hx)) (fun i hi => h2 i ?_) d⟩
    · rw [h2 _ (Nat.le_refl _)]
      exact cm_Mk_iff (cm_Lv_fr h1).symm a
    · rw [h1 e (List.mem_cons_self ..)]; exact b
    · rw [cm_cp_c]; omega
theorem cm_MK_pub {K Xs : Nat → Int32} {P : Int32} {ch mk : Nat → Int32} {e : Nat × Nat} {S : List (Nat × Nat)} (hs : cm_sec K Xs P e.1 = false) (h : cm_MK K Xs P ch mk S) : cm_MK K Xs P ch mk (e :: S) := by
  refine ⟨?_, fun z => by rw [hs] at z; exact absurd z (by decide), h⟩
  have e1 : cm_cp (cm_sec K Xs P) (e :: S) = cm_cp (cm_sec K Xs P) S := by rw [cm_cp_c, hs]; rfl
  rw [e1]
  refine cm_Mk_iff ?_ (cm_MK_hd h)
  rw [cm_Lv_c]
  exact ⟨fun z => ⟨fun y => by rw [hs] at y; exact absurd y (by decide), z⟩, fun z => z.2⟩
theorem cm_MK_sec {K Xs : Nat → Int32} {P : Int32} {ch mk : Nat → Int32} {k : Nat} {S : List (Nat × Nat)} {v b : Int32} (hs : cm_sec K Xs P k = true) (hS : ∀ e, e ∈ S → e.1 ≠ k) (hb : (v = 0 ∧ b = 0) ∨ (v ≠ 0 ∧ b = 1)) (h : cm_MK K Xs P ch mk S) : cm_MK K Xs P (upd ch k b) (upd mk (cm_cp (cm_sec K Xs P) S + 1) (mk (cm_cp (cm_sec K Xs P) S) &&& (cm_eq v 0 ^^^ (-1)))) ((k, k) :: S) := by
  have hfr : ∀ e, e ∈ S → upd ch k b e.1 = ch e.1 := fun e he => pk_un (hS e he)
  refine ⟨?_, fun _ => ?_, cm_MK_fr hfr (fun i hi => pk_un (by omega)) h⟩
  · have e1 : cm_cp (cm_sec K Xs P) ((k, k) :: S) = cm_cp (cm_sec K Xs P) S + 1 := by rw [cm_cp_c, if_pos hs]
    rw [e1, pk_us]
    have hl : cm_Lv K Xs P (upd ch k b) ((k, k) :: S) ↔ b = 1 ∧ cm_Lv K Xs P ch S := by
      rw [cm_Lv_c, cm_Lv_fr hfr]
      show (cm_sec K Xs P k = true → upd ch k b k = (if k = k then 1 else 0)) ∧ _ ↔ _
      rw [pk_us, if_pos rfl]
      exact ⟨fun z => ⟨z.1 hs, z.2⟩, fun z => ⟨fun _ => z.1, z.2⟩⟩
    refine cm_Mk_iff hl.symm ?_
    rcases hb with ⟨hv, rfl⟩ | ⟨hv, rfl⟩
    · rw [hv, cm_eq_t, cm_x1, Int32.and_zero]
      exact Or.inr ⟨fun z => absurd z.1 (by decide), rfl⟩
    · rw [cm_eq_f hv, cm_x0, Int32.and_neg_one]
      exact cm_Mk_iff ⟨fun z => ⟨rfl, z⟩, fun z => z.2⟩ (cm_MK_hd h)
  · show upd ch k b k = 0 ∨ upd ch k b k = 1
    rw [pk_us]
    exact hb.elim (fun z => Or.inl z.2) (fun z => Or.inr z.2)
theorem cm_MK_else {K Xs : Nat → Int32} {P : Int32} {ch mk : Nat → Int32} {j k : Nat} {t : List (Nat × Nat)} (hs : cm_sec K Xs P j = true) (hjk : k ≠ j) (h : cm_MK K Xs P ch mk ((j, j) :: t)) : cm_MK K Xs P ch (upd mk (cm_cp (cm_sec K Xs P) t + 1) (mk (cm_cp (cm_sec K Xs P) t) &&& (mk (cm_cp (cm_sec K Xs P) t + 1) ^^^ (-1)))) ((j, k) :: t) := by
  obtain ⟨h1, h2, h3⟩ := h
  refine ⟨?_, h2, cm_MK_fr (fun _ _ => rfl) (fun i hi => pk_un (by omega)) h3⟩
  have h2 : ch j = 0 ∨ ch j = 1 := h2 hs
  have e1 : cm_cp (cm_sec K Xs P) ((j, k) :: t) = cm_cp (cm_sec K Xs P) t + 1 := by rw [cm_cp_c, if_pos hs]
  have e2 : cm_cp (cm_sec K Xs P) ((j, j) :: t) = cm_cp (cm_sec K Xs P) t + 1 := by rw [cm_cp_c, if_pos hs]
  rw [e2] at h1
  rw [e1, pk_us]
  have hl : cm_Lv K Xs P ch ((j, k) :: t) ↔ ch j = 0 ∧ cm_Lv K Xs P ch t := by
    rw [cm_Lv_c]
    show (cm_sec K Xs P j = true → ch j = (if k = j then 1 else 0)) ∧ _ ↔ _
    rw [if_neg hjk]
    exact ⟨fun z => ⟨z.1 hs, z.2⟩, fun z => ⟨fun _ => z.1, z.2⟩⟩
  have hl1 : cm_Lv K Xs P ch ((j, j) :: t) ↔ ch j = 1 ∧ cm_Lv K Xs P ch t := by
    rw [cm_Lv_c]
    show (cm_sec K Xs P j = true → ch j = (if j = j then 1 else 0)) ∧ _ ↔ _
    rw [if_pos rfl]
    exact ⟨fun z => ⟨z.1 hs, z.2⟩, fun z => ⟨fun _ => z.1, z.2⟩⟩
  refine cm_Mk_iff hl.symm ?_
  have h1 := cm_Mk_iff hl1 h1
  have ht := cm_MK_hd h3
  rcases ht with ⟨ht, em⟩ | ⟨ht, em⟩
  · rw [em, Int32.neg_one_and]
    rcases h1 with ⟨⟨c1, _⟩, e⟩ | ⟨hn, e⟩
    · rw [e, cm_x1]
      exact Or.inr ⟨fun z => by rw [c1] at z; exact absurd z.1 (by decide), rfl⟩
    · rw [e, cm_x0]
      exact Or.inl ⟨⟨h2.resolve_right (fun z => hn ⟨z, ht⟩), ht⟩, rfl⟩
  · rw [em, Int32.zero_and]
    exact Or.inr ⟨fun z => ht z.2, rfl⟩
/-- X's counters over a stack -/
def cm_CT (K ct lf : Nat → Int32) : List (Nat × Nat) → Prop
  | [] => True
  | e :: t => (K e.1 = 13 → ct (cm_cp (cm_isK K 13) t) = lf e.1 ∧ ∃ l, 1 ≤ l ∧ l ≤ 4 ∧ lf e.1 = nI l) ∧ cm_CT K ct lf t
theorem cm_CT_fr {K ct lf ct' lf' : Nat → Int32} : ∀ {S : List (Nat × Nat)}, (∀ e, e ∈ S → lf' e.1 = lf e.1) → (∀ i, i < cm_cp (cm_isK K 13) S → ct' i = ct i) → cm_CT K ct lf S → cm_CT K ct' lf' S
  | [], _, _, _ => trivial
  | e :: t, h1, h2, ⟨a, d⟩ => by
    refine ⟨fun hK => ?_, cm_CT_fr (fun x hx => h1 x (List.mem_cons_of_mem _ hx)) (fun i hi => h2 i ?_) d⟩
    · rw [h1 e (List.mem_cons_self ..), h2 _ (by rw [cm_cp_c, if_pos (cm_isK_t hK)]; omega)]
      exact a hK
    · rw [cm_cp_c]; omega
theorem cm_CT_if {K ct lf : Nat → Int32} {e : Nat × Nat} {S : List (Nat × Nat)} (hK : K e.1 = 11) (h : cm_CT K ct lf S) : cm_CT K ct lf (e :: S) := ⟨fun z => by rw [hK] at z; exact absurd z (by decide), h⟩
theorem cm_CT_rep {K ct lf : Nat → Int32} {k n : Nat} {e : Nat × Nat} {S : List (Nat × Nat)} (he : e.1 = k) (hS : ∀ x, x ∈ S → x.1 ≠ k) (h1 : 1 ≤ n) (h4 : n ≤ 4) (h : cm_CT K ct lf S) : cm_CT K (upd ct (cm_cp (cm_isK K 13) S) (nI n)) (upd lf k (nI n)) (e :: S) := by
  refine ⟨fun _ => ?_, cm_CT_fr (fun x hx => pk_un (hS x hx)) (fun i hi => pk_un (by omega)) h⟩
  rw [he, pk_us, pk_us]
  exact ⟨rfl, n, h1, h4, rfl⟩
theorem cm_st_ne {K : Nat → Int32} {k : Nat} : ∀ e, e ∈ cm_st K k → e.1 ≠ k := fun e he => by
  have := cm_Ch_lt (cm_Ch_st K k) he
  omega
/-- the run's relation, Y at statement a -/
def cm_RI (K Xs : Nat → Int32) (P : Int32) (c a ln : Nat) (dg ff : Int32) (mk ct ev ch lf tr : Nat → Int32) : Prop :=
  a ≤ c ∧ cm_Tr ln dg ev tr ∧ (ff = -1 ∨ 0 ≤ ff) ∧ cm_MK K Xs P ch mk (cm_st K a) ∧ cm_CT K ct lf (cm_st K a)
/-- where the jumps go -/
theorem cm_st_aft {K : Nat → Int32} {e j : Nat} (hK : K e = 14) (hh : cm_Hd K e j) : cm_st K (e + 1) = cm_st K j := by
  obtain ⟨q, t, hS⟩ := hh
  rw [cm_st_end hK, hS]
  exact (cm_hd hS).1
theorem cm_tgt_end {K Xs : Nat → Int32} {P cl : Int32} {co so rg tg : Nat → Int32} {c e j : Nat} (hG : cm_Good K Xs P cl co so rg tg c) (he : e < c) (hK : K e = 14) (hh : cm_Hd K e j) (hs : cm_sec K Xs P j = false) (hno : ∀ i, j < i → i < e → ¬ (K i = 12 ∧ cm_Hd K i j)) : tg (cm_ps K j) = nI (cm_ps K (e + 1)) := by
  obtain ⟨q, t, hS⟩ := hh
  have hq : q = j := by
    by_cases hq : q = j
    · exact hq
    · have hm : (j, q) ∈ cm_st K e := by rw [hS]; exact List.mem_cons_self ..
      have h1 := cm_q1 hm hq
      have h2 := cm_hd hS
      exact absurd h1 (hno q (by omega) h2.2.2.1)
  subst hq
  exact hG.2.2.1 e he (Or.inr hK) q q t hS hs
theorem cm_tgt_else {K Xs : Nat → Int32} {P cl : Int32} {co so rg tg : Nat → Int32} {c e j : Nat} (hG : cm_Good K Xs P cl co so rg tg c) (he : e < c) (hK : K e = 12) (hh : cm_Hd K e j) (hs : cm_sec K Xs P j = false) : tg (cm_ps K j) = nI (cm_ps K (e + 1)) ∧ cm_st K (e + 1) = (j, e) :: cm_st K j := by
  obtain ⟨j', t, hS, hj⟩ := (hG.2.2.2.2.1 e he).1.2.1 hK
  have : j' = j := cm_Hd_uq ⟨j', t, hS⟩ hh
  subst this
  refine ⟨hG.2.2.1 e he (Or.inl hK) j' j' t hS hs, ?_⟩
  rw [cm_st_else hK, hS, (cm_hd hS).1]; rfl
theorem cm_tgt_jump {K Xs : Nat → Int32} {P cl : Int32} {co so rg tg : Nat → Int32} {c a e j : Nat} {t : List (Nat × Nat)} (hG : cm_Good K Xs P cl co so rg tg c) (ha : K a = 12) (hSa : cm_st K a = (j, j) :: t) (hac : a < c) (hje : j < e) (he : e < c) (hK : K e = 14) (hh : cm_Hd K e j) (hs : cm_sec K Xs P j = false) : a < e ∧ tg (cm_ps K a) = nI (cm_ps K (e + 1)) := by
  have hin : cm_In K j a := cm_Hd_In ⟨j, t, hSa⟩
  have hae : a < e := by
    rcases Nat.lt_or_ge a e with z | z
    · exact z
    · have hne : e ≠ a := by rintro rfl; rw [ha] at hK; exact absurd hK (by decide)
      obtain ⟨x, hx, hxj⟩ := cm_In_mono (m := e + 1) (by omega) (by omega) hin
      rw [cm_st_aft hK hh] at hx
      have := cm_Ch_lt (cm_Ch_st K j) hx
      omega
  refine ⟨hae, ?_⟩
  obtain ⟨q, t', hS⟩ := hh
  have hm : (j, q) ∈ cm_st K e := by rw [hS]; exact List.mem_cons_self ..
  have hq2 := cm_q2' ha ⟨j, t, hSa⟩ hae hm
  have hja := cm_In_lt hin
  have hq : q = a := by
    by_cases hq : q = a
    · exact hq
    · have h1 := cm_q1 hm (show q ≠ j by omega)
      have h2 := cm_hd hS
      obtain ⟨j', t'', hSq, _⟩ := (hG.2.2.2.2.1 q (by omega)).1.2.1 h1.1
      have : j' = j := cm_Hd_uq ⟨j', t'', hSq⟩ h1.2
      subst this
      have := cm_q2' ha ⟨j', t, hSa⟩ (show a < q by omega) (q := j') (by rw [hSq]; exact List.mem_cons_self ..)
      omega
  subst hq
  exact hG.2.2.1 e he (Or.inr hK) j q t' hS hs
theorem cm_no_else {K Xs : Nat → Int32} {P cl : Int32} {co so rg tg : Nat → Int32} {c e j : Nat} (hG : cm_Good K Xs P cl co so rg tg c) (he : e ≤ c) (hj : K j = 13) : ∀ i, j < i → i < e → ¬ (K i = 12 ∧ cm_Hd K i j) := by
  rintro i h1 h2 ⟨h3, h4⟩
  obtain ⟨j', t, hS, hj'⟩ := (hG.2.2.2.2.1 i (by omega)).1.2.1 h3
  have : j' = j := cm_Hd_uq ⟨j', t, hS⟩ h4
  rw [this, hj] at hj'
  exact absurd hj' (by decide)
/-- the measure asks only for the REPEATs around a -/
theorem cm_nv_fr {a : Nat} {B : List Nat} {l l' : Nat → Nat} (h : ∀ p, p ∈ B → l' p = l p) : ∀ (A : List Nat) (i : Nat), cm_nv a B l' A i = cm_nv a B l A i
  | [], _ => rfl
  | p :: t, i => by
    show 4 * cm_nv a B l' t p + _ = 4 * cm_nv a B l t p + _
    rw [cm_nv_fr h t p]
    by_cases hp : p ∈ B
    · rw [if_pos hp, if_pos hp, h p hp]
    · rw [if_neg hp, if_neg hp]
theorem cm_sm_eq {f g : Nat → Nat} (h : ∀ i, f i = g i) : ∀ n, cm_sm f n = cm_sm g n
  | 0 => rfl
  | n + 1 => by show cm_sm f n + f n = cm_sm g n + g n; rw [cm_sm_eq h n, h n]
theorem cm_M_fr {K lf lf' : Nat → Int32} {c a : Nat} (h : ∀ p, p ∈ cm_rp K a → lf' p = lf p) : cm_M K c a lf' = cm_M K c a lf := by
  unfold cm_M
  refine cm_sm_eq (fun i => ?_) c
  unfold cm_N
  exact cm_nv_fr (fun p hp => by rw [h p hp]) _ _
end
section
theorem cm_clamp4 (v : Int32) : ∃ n : Nat, n ≤ 4 ∧ ((¬ 0 ≤ v ∧ n = 0) ∨ (0 ≤ v ∧ v ≤ 4 ∧ v = nI n) ∨ (0 ≤ v ∧ ¬ v ≤ 4 ∧ n = 4)) := by
  by_cases h0 : 0 ≤ v
  · by_cases h4 : v ≤ 4
    · obtain ⟨n, hn, e⟩ := nI_of2 (n := 4) (by decide) (Int32.not_lt.mpr h0) h4
      exact ⟨n, hn, Or.inr (Or.inl ⟨h0, h4, e⟩)⟩
    · exact ⟨4, Nat.le_refl _, Or.inr (Or.inr ⟨h0, h4, rfl⟩)⟩
  · exact ⟨0, by omega, Or.inl ⟨h0, rfl⟩⟩
section
variable {o1 o2 o3 o4 o5 o6 sta ob orr os cl dg ff : Int32} {pv sv pc sc c ln : Nat} {sz inp mm K Xs Ys Zs bk bp bs be co so rg tg mk ct ev ch lf tr : Nat → Int32}
theorem cm_step_flat {a : Nat} (hsz : cm_Sz pv sv pc sc sz) (hb : cm_Bd pv sv pc sc) (hc24 : c ≤ 24) (hv : cm_Vd pv sv K Xs Ys Zs a) (hG : cm_Good K Xs (nI pv) cl co so rg tg c) (ha : a < c) (hR : cm_RI K Xs (nI pv) c a ln dg ff mk ct ev ch lf tr) (hln : ln + 9 ≤ 4096) (hf : K a < 11) (hf' : ¬ 10 < K a) (n1 : K a ≠ 11) (n2 : K a ≠ 12) (n3 : K a ≠ 13) (n4 : K a ≠ 14) : ∃ (a' ln' : Nat) (dg' ff' : Int32) (mm' mk' ct' ev' ch' lf' tr' : Nat → Int32), cm_RI K Xs (nI pv) c a' ln' dg' ff' mk' ct' ev' ch' lf' tr' ∧ cm_M K c a' lf' < cm_M K c a lf ∧ ln' ≤ ln + 9 ∧ (∀ post : Int32 → SX → Prop, post (nI (cm_ps K a')) (o1, o2, o3, o4, o5, o6, nI pv, nI c, sta, ob, orr, os, cl, nI ln', dg', ff', sz, inp, mm', K, Xs, Ys, Zs, bk, bp, bs, be, co, so, rg, tg, mk', ct', ev') → wpX_advance post (o1, o2, o3, o4, o5, o6, nI pv, nI c, sta, ob, orr, os, cl, nI ln, dg, ff, sz, inp, mm, K, Xs, Ys, Zs, bk, bp, bs, be, co, so, rg, tg, mk, ct, ev) (nI (cm_ps K a))) ∧ (∀ post : Int32 → SY → Prop, post (nI a') (nI pv, nI sv, nI pc, nI sc, nI c, sta, ff', nI ln', K, Xs, Ys, Zs, inp, mm', ch', lf', tr') → wpY_walk post (nI pv, nI sv, nI pc, nI sc, nI c, sta, ff, nI ln, K, Xs, Ys, Zs, inp, mm, ch, lf, tr) (nI a)) := by
  have hin : vp_in (nI a) 24 := vp_in_nI (by omega) (by decide)
  have hc : (nI a).toNatClampNeg = a := nI_clamp (by omega)
  have hem : cm_Em K a := cm_Em_k n4
  have hple := cm_ps_le K a
  have hinp : vp_in (nI (cm_ps K a)) 24 := vp_in_nI (by omega) (by decide)
  have hcp : (nI (cm_ps K a)).toNatClampNeg = cm_ps K a := nI_clamp (by omega)
  obtain ⟨r1, r2, r3, r4, r5⟩ := hR
  obtain ⟨hco, hso, hrg⟩ := hG.2.1 a ha hem
  have e1 : cm_opc K (cm_sec K Xs (nI pv)) a = K a := by unfold cm_opc; rw [if_neg n1, if_neg n2, if_neg n3, if_neg n4]
  have e2 : cm_rgc K (cm_sec K Xs (nI pv)) a = cm_cp (cm_sec K Xs (nI pv)) (cm_st K a) := by unfold cm_rgc; rw [if_neg n3, if_neg n4]
  rw [e1] at hco
  rw [e2] at hrg
  have hl4 := (hG.2.2.2.2.1 a ha).2.1
  have hcs := cm_cp_le (cm_sec K Xs (nI pv)) (cm_st K a)
  have hst : cm_st K (a + 1) = cm_st K a := cm_st_flat n1 n2 n3 n4
  obtain ⟨ln', dg', ff', mm', ev', tr', hT', hl', hff', hX, hY⟩ := cm_simple (o1 := o1) (o2 := o2) (o3 := o3) (o4 := o4) (o5 := o5) (o6 := o6) (sta := sta) (ob := ob) (orr := orr) (os := os) (cl := cl) (dg := dg) (ff := ff) (pv := pv) (c := c) (ln := ln) (sz := sz) (inp := inp) (mm := mm) (K := K) (Xs := Xs) (Ys := Ys) (Zs := Zs) (bk := bk) (bp := bp) (bs := bs) (be := be) (co := co) (so := so) (rg := rg) (tg := tg) (mk := mk) (ct := ct) (ev := ev) (sv := sv) (pc := pc) (sc := sc) (ch := ch) (lf := lf) (tr := tr) hb hsz (show a < 24 by omega) hv hln r2 r3 (cm_MK_hd r4) hf
  refine ⟨a + 1, ln', dg', ff', mm', mk, ct, ev', ch, lf, tr', ⟨ha, hT', hff', by rw [hst]; exact r4, by rw [hst]; exact r5⟩, cm_M_a (Nat.lt_succ_self _) ha (by unfold cm_rp; rw [hst]), hl', fun post h => ?_, fun post h => ?_⟩
  · refine And.intro hinp (nm_r (e' := K a) (by rw [hcp, hco]) (br_f hf' (And.intro hinp (And.intro hinp ?_))))
    rw [hcp, hso, hrg, nI_clamp (show cm_cp (cm_sec K Xs (nI pv)) (cm_st K a) < 2 ^ 31 by omega)]
    refine And.intro (vp_in_nI (by omega) (by decide)) (hX _ ?_)
    rw [cm_ps_s hem, ← nI_1] at h
    exact h
  · refine And.intro hin (nm_r (e' := K a) (by rw [hc]) (br_f hf' (hY _ ?_)))
    rw [← nI_1] at h
    exact h
theorem cm_step_sif {a : Nat} (hb : cm_Bd pv sv pc sc) (hc24 : c ≤ 24) (hv : cm_Vd pv sv K Xs Ys Zs a) (hG : cm_Good K Xs (nI pv) cl co so rg tg c) (ha : a < c) (hR : cm_RI K Xs (nI pv) c a ln dg ff mk ct ev ch lf tr) (hln : ln + 9 ≤ 4096) (hK : K a = 11) (hx : ¬ Xs a < nI pv) : ∃ (a' ln' : Nat) (dg' ff' : Int32) (mm' mk' ct' ev' ch' lf' tr' : Nat → Int32), cm_RI K Xs (nI pv) c a' ln' dg' ff' mk' ct' ev' ch' lf' tr' ∧ cm_M K c a' lf' < cm_M K c a lf ∧ ln' ≤ ln + 9 ∧ (∀ post : Int32 → SX → Prop, post (nI (cm_ps K a')) (o1, o2, o3, o4, o5, o6, nI pv, nI c, sta, ob, orr, os, cl, nI ln', dg', ff', sz, inp, mm', K, Xs, Ys, Zs, bk, bp, bs, be, co, so, rg, tg, mk', ct', ev') → wpX_advance post (o1, o2, o3, o4, o5, o6, nI pv, nI c, sta, ob, orr, os, cl, nI ln, dg, ff, sz, inp, mm, K, Xs, Ys, Zs, bk, bp, bs, be, co, so, rg, tg, mk, ct, ev) (nI (cm_ps K a))) ∧ (∀ post : Int32 → SY → Prop, post (nI a') (nI pv, nI sv, nI pc, nI sc, nI c, sta, ff', nI ln', K, Xs, Ys, Zs, inp, mm', ch', lf', tr') → wpY_walk post (nI pv, nI sv, nI pc, nI sc, nI c, sta, ff, nI ln, K, Xs, Ys, Zs, inp, mm, ch, lf, tr) (nI a)) := by
  have hin : vp_in (nI a) 24 := vp_in_nI (by omega) (by decide)
  have hc : (nI a).toNatClampNeg = a := nI_clamp (by omega)
  have n4 : K a ≠ 14 := by rw [hK]; decide
  have n3 : K a ≠ 13 := by rw [hK]; decide
  have hem : cm_Em K a := cm_Em_k n4
  have hple := cm_ps_le K a
  have hinp : vp_in (nI (cm_ps K a)) 24 := vp_in_nI (by omega) (by decide)
  have hcp : (nI (cm_ps K a)).toNatClampNeg = cm_ps K a := nI_clamp (by omega)
  have hs : cm_sec K Xs (nI pv) a = true := cm_sec_t hK hx
  obtain ⟨r1, r2, r3, r4, r5⟩ := hR
  obtain ⟨hco, hso, hrg⟩ := hG.2.1 a ha hem
  have e1 : cm_opc K (cm_sec K Xs (nI pv)) a = 11 := by unfold cm_opc; rw [if_pos hK, if_pos hs]
  have e2 : cm_rgc K (cm_sec K Xs (nI pv)) a = cm_cp (cm_sec K Xs (nI pv)) (cm_st K a) := by unfold cm_rgc; rw [if_neg n3, if_neg n4]
  rw [e1] at hco
  rw [e2] at hrg
  have hl4 := (hG.2.2.2.2.1 a ha).1.1 hK
  have hcs := cm_cp_le (cm_sec K Xs (nI pv)) (cm_st K a)
  have hst : cm_st K (a + 1) = (a, a) :: cm_st K a := cm_st_push (Or.inl hK)
  obtain ⟨x, hx16, hX⟩ := hv.2.1 (by rw [hK]; decide) (by rw [hK]; decide) n4
  obtain ⟨b1, b2, b3, b4, -⟩ := hb
  have hcx : (nI x).toNatClampNeg = x := nI_clamp (by omega)
  have hinx : vp_in (nI x) 32 := vp_in_nI (by omega) (by decide)
  have hbb : ∃ b : Int32, ((mm x = 0 ∧ b = 0) ∨ (mm x ≠ 0 ∧ b = 1)) := by
    by_cases z : mm x = 0
    · exact ⟨0, Or.inl ⟨z, rfl⟩⟩
    · exact ⟨1, Or.inr ⟨z, rfl⟩⟩
  obtain ⟨b, hbb⟩ := hbb
  have hcl : (nI (cm_cp (cm_sec K Xs (nI pv)) (cm_st K a))).toNatClampNeg = cm_cp (cm_sec K Xs (nI pv)) (cm_st K a) := nI_clamp (by omega)
  have hcl1 : (nI (cm_cp (cm_sec K Xs (nI pv)) (cm_st K a) + 1)).toNatClampNeg = cm_cp (cm_sec K Xs (nI pv)) (cm_st K a) + 1 := nI_clamp (by omega)
  refine ⟨a + 1, ln + 1, dg * 31 + nI a, ff, mm, upd mk (cm_cp (cm_sec K Xs (nI pv)) (cm_st K a) + 1) (mk (cm_cp (cm_sec K Xs (nI pv)) (cm_st K a)) &&& (cm_eq (mm x) 0 ^^^ (-1))), ct, cm_evu ev ln (nI a), upd ch a b, lf, upd tr ln (nI a), ⟨ha, cm_Tr_1 r2 _, r3, ?_, ?_⟩, ?_, by omega, fun post h => ?_, fun post h => ?_⟩
  · rw [hst]
    exact cm_MK_sec hs cm_st_ne hbb r4
  · rw [hst]
    exact cm_CT_if hK r5
  · refine cm_M_a (Nat.lt_succ_self _) ha ?_
    unfold cm_rp; rw [hst]; exact cm_rs_f n3
  · refine And.intro hinp (nm_r (e' := 11) (by rw [hcp, hco]) (br_t (by decide) (br_t rfl ?_)))
    refine And.intro hinp (nm_r (e' := nI a) (by rw [hcp, hso]) (And.intro hinp (nm_r (e' := nI (cm_cp (cm_sec K Xs (nI pv)) (cm_st K a))) (by rw [hcp, hrg]) ?_)))
    refine cx_observe (by omega) ?_
    refine And.intro hin ?_
    rw [hc, hX]
    refine And.intro hinx ?_
    rw [hcx]
    refine cx_eqm ?_
    rw [nI_1, hcl, hcl1]
    refine And.intro (vp_in_nI (by omega) (by decide)) (And.intro (vp_in_nI (by omega) (by decide)) (nm_e ?_))
    rw [cm_ps_s hem, ← nI_1] at h
    exact h
  · refine And.intro hin (nm_r (e' := 11) (by rw [hc]; exact hK) (br_t (by decide) (br_t rfl (cy_emit (by omega) ?_))))
    refine And.intro hin ?_
    rw [hc, hX]
    refine And.intro hinx ?_
    rw [hcx]
    have fin : ∀ z : Int32, z = b → vp_nar .boolean z = b → wY_walk_56 post (nI a) z (nI a) (nI pv) (nI sv) (nI pc) (nI sc) (nI c) sta ff (nI (ln + 1)) K Xs Ys Zs inp mm ch lf (upd tr ln (nI a)) := by
      intro z hz1 hz
      refine And.intro hin (nm_r (e' := upd ch a b) (by rw [hc, hz]) (And.intro hin (cy_secret (fun y => ?_) (fun y => br_f (by decide) ?_))))
      · rw [hc] at y; exact absurd y hx
      · rw [← nI_1] at h
        exact h
    rcases hbb with ⟨z, rfl⟩ | ⟨z, rfl⟩
    · exact br_t z (fin 0 rfl rfl)
    · exact br_f z (fin 1 rfl rfl)
theorem cm_step_pif {a : Nat} (hb : cm_Bd pv sv pc sc) (hc24 : c ≤ 24) (hv : cm_Vd pv sv K Xs Ys Zs a) (hG : cm_Good K Xs (nI pv) cl co so rg tg c) (ha : a < c) (hR : cm_RI K Xs (nI pv) c a ln dg ff mk ct ev ch lf tr) (hln : ln + 9 ≤ 4096) (hK : K a = 11) (hx : Xs a < nI pv) : ∃ (a' ln' : Nat) (dg' ff' : Int32) (mm' mk' ct' ev' ch' lf' tr' : Nat → Int32), cm_RI K Xs (nI pv) c a' ln' dg' ff' mk' ct' ev' ch' lf' tr' ∧ cm_M K c a' lf' < cm_M K c a lf ∧ ln' ≤ ln + 9 ∧ (∀ post : Int32 → SX → Prop, post (nI (cm_ps K a')) (o1, o2, o3, o4, o5, o6, nI pv, nI c, sta, ob, orr, os, cl, nI ln', dg', ff', sz, inp, mm', K, Xs, Ys, Zs, bk, bp, bs, be, co, so, rg, tg, mk', ct', ev') → wpX_advance post (o1, o2, o3, o4, o5, o6, nI pv, nI c, sta, ob, orr, os, cl, nI ln, dg, ff, sz, inp, mm, K, Xs, Ys, Zs, bk, bp, bs, be, co, so, rg, tg, mk, ct, ev) (nI (cm_ps K a))) ∧ (∀ post : Int32 → SY → Prop, post (nI a') (nI pv, nI sv, nI pc, nI sc, nI c, sta, ff', nI ln', K, Xs, Ys, Zs, inp, mm', ch', lf', tr') → wpY_walk post (nI pv, nI sv, nI pc, nI sc, nI c, sta, ff, nI ln, K, Xs, Ys, Zs, inp, mm, ch, lf, tr) (nI a)) := by
  have hin : vp_in (nI a) 24 := vp_in_nI (by omega) (by decide)
  have hc : (nI a).toNatClampNeg = a := nI_clamp (by omega)
  have n4 : K a ≠ 14 := by rw [hK]; decide
  have n3 : K a ≠ 13 := by rw [hK]; decide
  have hem : cm_Em K a := cm_Em_k n4
  have hple := cm_ps_le K a
  have hinp : vp_in (nI (cm_ps K a)) 24 := vp_in_nI (by omega) (by decide)
  have hcp : (nI (cm_ps K a)).toNatClampNeg = cm_ps K a := nI_clamp (by omega)
  have hs : cm_sec K Xs (nI pv) a = false := cm_sec_f2 hx
  have hG' := hG
  obtain ⟨r1, r2, r3, r4, r5⟩ := hR
  obtain ⟨hco, hso, hrg⟩ := hG.2.1 a ha hem
  have e1 : cm_opc K (cm_sec K Xs (nI pv)) a = 13 := by unfold cm_opc; rw [if_pos hK, if_neg (by rw [hs]; decide)]
  rw [e1] at hco
  have hst : cm_st K (a + 1) = (a, a) :: cm_st K a := cm_st_push (Or.inl hK)
  obtain ⟨x, hx16, hX⟩ := hv.2.1 (by rw [hK]; decide) (by rw [hK]; decide) n4
  obtain ⟨b1, b2, b3, b4, -⟩ := hb
  have hcx : (nI x).toNatClampNeg = x := nI_clamp (by omega)
  have hinx : vp_in (nI x) 32 := vp_in_nI (by omega) (by decide)
  have hfr : ∀ (b : Int32) (e : Nat × Nat), e ∈ cm_st K a → upd ch a b e.1 = ch e.1 := fun b e he => pk_un (cm_st_ne e he)
  have hMK : ∀ b : Int32, cm_MK K Xs (nI pv) (upd ch a b) mk (cm_st K a) := fun b => cm_MK_fr (hfr b) (fun _ _ => rfl) r4
  -- X up to the choice
  have goX : ∀ post : Int32 → SX → Prop, ((mm x = 0 → post (tg (cm_ps K a)) (o1, o2, o3, o4, o5, o6, nI pv, nI c, sta, ob, orr, os, cl, nI (ln + 1), dg * 31 + nI a, ff, sz, inp, mm, K, Xs, Ys, Zs, bk, bp, bs, be, co, so, rg, tg, mk, ct, cm_evu ev ln (nI a))) ∧ (¬ mm x = 0 → post (nI (cm_ps K a + 1)) (o1, o2, o3, o4, o5, o6, nI pv, nI c, sta, ob, orr, os, cl, nI (ln + 1), dg * 31 + nI a, ff, sz, inp, mm, K, Xs, Ys, Zs, bk, bp, bs, be, co, so, rg, tg, mk, ct, cm_evu ev ln (nI a)))) → wpX_advance post (o1, o2, o3, o4, o5, o6, nI pv, nI c, sta, ob, orr, os, cl, nI ln, dg, ff, sz, inp, mm, K, Xs, Ys, Zs, bk, bp, bs, be, co, so, rg, tg, mk, ct, ev) (nI (cm_ps K a)) := by
    intro post h
    refine And.intro hinp (nm_r (e' := 13) (by rw [hcp, hco]) (br_t (by decide) (br_f (by decide) (br_f (by decide) (br_t rfl (And.intro hinp ?_))))))
    rw [hcp, hso]
    refine cx_observe (by omega) ?_
    refine And.intro hinp ?_
    rw [hso]
    refine And.intro hin ?_
    rw [hc, hX]
    refine And.intro hinx ?_
    rw [hcx]
    refine ⟨fun z => And.intro hinp (h.1 z), fun z => ?_⟩
    rw [nI_1]
    exact h.2 z
  -- Y up to the choice
  have goY : ∀ post : Int32 → SY → Prop, (mm x = 0 → wpY_find (fun r => (((0 : Int32) ≤ r → post (r + 1) (nI pv, nI sv, nI pc, nI sc, nI c, sta, ff, nI (ln + 1), K, Xs, Ys, Zs, inp, mm, upd ch a 0, lf, upd tr ln (nI a))) ∧ (¬ (0 : Int32) ≤ r → wpY_find (fun r => post (r + 1) (nI pv, nI sv, nI pc, nI sc, nI c, sta, ff, nI (ln + 1), K, Xs, Ys, Zs, inp, mm, upd ch a 0, lf, upd tr ln (nI a))) (nI pv, nI sv, nI pc, nI sc, nI c, sta, ff, nI (ln + 1), K, Xs, Ys, Zs, inp, mm, upd ch a 0, lf, upd tr ln (nI a)) 14 (nI a) (nI c)))) (nI pv, nI sv, nI pc, nI sc, nI c, sta, ff, nI (ln + 1), K, Xs, Ys, Zs, inp, mm, upd ch a 0, lf, upd tr ln (nI a)) 12 (nI a) (nI c)) → (¬ mm x = 0 → post (nI a + 1) (nI pv, nI sv, nI pc, nI sc, nI c, sta, ff, nI (ln + 1), K, Xs, Ys, Zs, inp, mm, upd ch a 1, lf, upd tr ln (nI a))) → wpY_walk post (nI pv, nI sv, nI pc, nI sc, nI c, sta, ff, nI ln, K, Xs, Ys, Zs, inp, mm, ch, lf, tr) (nI a) := by
    intro post h1 h2
    refine And.intro hin (nm_r (e' := 11) (by rw [hc]; exact hK) (br_t (by decide) (br_t rfl (cy_emit (by omega) ?_))))
    refine And.intro hin ?_
    rw [hc, hX]
    refine And.intro hinx ?_
    rw [hcx]
    refine ⟨fun z => ?_, fun z => ?_⟩
    · refine And.intro hin (nm_r (e' := upd ch a 0) (by rw [hc]; rfl) (And.intro hin (cy_secret (fun y => br_t rfl (And.intro hin (br_t ?_ (h1 z)))) (fun y => ?_))))
      · rw [hc, pk_us]
      · rw [hc] at y; exact absurd hx y
    · refine And.intro hin (nm_r (e' := upd ch a 1) (by rw [hc]; rfl) (And.intro hin (cy_secret (fun y => br_t rfl (And.intro hin (br_f ?_ (h2 z)))) (fun y => ?_))))
      · rw [hc, pk_us]; decide
      · rw [hc] at y; exact absurd hx y
  by_cases hz : mm x = 0
  · by_cases hE : ∃ e, (a < e ∧ e < c ∧ K e = 12 ∧ cm_Hd K e a) ∧ ∀ j, j < e → ¬ (a < j ∧ j < c ∧ K j = 12 ∧ cm_Hd K j a)
    · obtain ⟨e, ⟨he1, he2, he3, he4⟩, hfst⟩ := hE
      obtain ⟨ht, hSe⟩ := cm_tgt_else hG' he2 he3 he4 hs
      refine ⟨e + 1, ln + 1, dg * 31 + nI a, ff, mm, mk, ct, cm_evu ev ln (nI a), upd ch a 0, lf, upd tr ln (nI a), ⟨he2, cm_Tr_1 r2 _, r3, ?_, ?_⟩, ?_, by omega, fun post h => goX post (br_t hz ?_), fun post h => goY post (fun _ => ?_) (fun y => absurd hz y)⟩
      · rw [hSe]
        exact cm_MK_pub hs (hMK 0)
      · rw [hSe]
        exact cm_CT_if hK r5
      · refine cm_M_a (by omega) ha ?_
        unfold cm_rp; rw [hSe]; exact cm_rs_f n3
      · rw [ht]; exact h
      · refine cy_find ha (by omega) (fun i i1 i2 i3 i4 i5 => ?_) (fun hno => absurd ⟨he3, he4⟩ (hno e he1 he2))
        have : i = e := by
          rcases Nat.lt_trichotomy i e with y | y | y
          · exact absurd ⟨i1, i2, i3, i4⟩ (hfst i y)
          · exact y
          · exact absurd ⟨he3, he4⟩ (i5 e he1 y)
        subst this
        refine br_t (nI_pos' (by omega)) ?_
        rw [nI_1]; exact h
    · have hno : ∀ i, a < i → i < c → ¬ (K i = 12 ∧ cm_Hd K i a) := fun i i1 i2 i3 => hE (pk_least (fun i => a < i ∧ i < c ∧ K i = 12 ∧ cm_Hd K i a) ⟨i, i1, i2, i3⟩)
      obtain ⟨e0, hx1, hx2, hx3, hx4⟩ := cm_end_ex' (Or.inl hK) hG'.2.2.2.2.2 ha
      obtain ⟨e, ⟨he1, he2, he3, he4⟩, hfst⟩ := pk_least (fun i => a < i ∧ i < c ∧ K i = 14 ∧ cm_Hd K i a) ⟨e0, hx1, hx2, hx3, hx4⟩
      have ht := cm_tgt_end hG' he2 he3 he4 hs (fun i i1 i2 => hno i i1 (by omega))
      have hSe := cm_st_aft he3 he4
      refine ⟨e + 1, ln + 1, dg * 31 + nI a, ff, mm, mk, ct, cm_evu ev ln (nI a), upd ch a 0, lf, upd tr ln (nI a), ⟨he2, cm_Tr_1 r2 _, r3, ?_, ?_⟩, ?_, by omega, fun post h => goX post (br_t hz ?_), fun post h => goY post (fun _ => ?_) (fun y => absurd hz y)⟩
      · rw [hSe]
        exact hMK 0
      · rw [hSe]
        exact r5
      · refine cm_M_a (by omega) ha ?_
        unfold cm_rp; rw [hSe]
      · rw [ht]; exact h
      · refine cy_find ha (by omega) (fun i i1 i2 i3 i4 i5 => absurd ⟨i3, i4⟩ (hno i i1 i2)) (fun _ => br_f (by decide) ?_)
        refine cy_find ha (by omega) (fun i i1 i2 i3 i4 i5 => ?_) (fun hno => absurd ⟨he3, he4⟩ (hno e he1 he2))
        have : i = e := by
          rcases Nat.lt_trichotomy i e with y | y | y
          · exact absurd ⟨i1, i2, i3, i4⟩ (hfst i y)
          · exact y
          · exact absurd ⟨he3, he4⟩ (i5 e he1 y)
        subst this
        rw [nI_1]; exact h
  · refine ⟨a + 1, ln + 1, dg * 31 + nI a, ff, mm, mk, ct, cm_evu ev ln (nI a), upd ch a 1, lf, upd tr ln (nI a), ⟨ha, cm_Tr_1 r2 _, r3, ?_, ?_⟩, ?_, by omega, fun post h => goX post (br_f hz ?_), fun post h => goY post (fun y => absurd y hz) (fun _ => ?_)⟩
    · rw [hst]
      exact cm_MK_pub hs (hMK 1)
    · rw [hst]
      exact cm_CT_if hK r5
    · refine cm_M_a (by omega) ha ?_
      unfold cm_rp; rw [hst]; exact cm_rs_f n3
    · rw [cm_ps_s hem] at h; exact h
    · rw [nI_1]; exact h
theorem cm_step_else {a : Nat} (hb : cm_Bd pv sv pc sc) (hc24 : c ≤ 24) (hv : cm_Vd pv sv K Xs Ys Zs a) (hG : cm_Good K Xs (nI pv) cl co so rg tg c) (ha : a < c) (hR : cm_RI K Xs (nI pv) c a ln dg ff mk ct ev ch lf tr) (hln : ln + 9 ≤ 4096) (hK : K a = 12) : ∃ (a' ln' : Nat) (dg' ff' : Int32) (mm' mk' ct' ev' ch' lf' tr' : Nat → Int32), cm_RI K Xs (nI pv) c a' ln' dg' ff' mk' ct' ev' ch' lf' tr' ∧ cm_M K c a' lf' < cm_M K c a lf ∧ ln' ≤ ln + 9 ∧ (∀ post : Int32 → SX → Prop, post (nI (cm_ps K a')) (o1, o2, o3, o4, o5, o6, nI pv, nI c, sta, ob, orr, os, cl, nI ln', dg', ff', sz, inp, mm', K, Xs, Ys, Zs, bk, bp, bs, be, co, so, rg, tg, mk', ct', ev') → wpX_advance post (o1, o2, o3, o4, o5, o6, nI pv, nI c, sta, ob, orr, os, cl, nI ln, dg, ff, sz, inp, mm, K, Xs, Ys, Zs, bk, bp, bs, be, co, so, rg, tg, mk, ct, ev) (nI (cm_ps K a))) ∧ (∀ post : Int32 → SY → Prop, post (nI a') (nI pv, nI sv, nI pc, nI sc, nI c, sta, ff', nI ln', K, Xs, Ys, Zs, inp, mm', ch', lf', tr') → wpY_walk post (nI pv, nI sv, nI pc, nI sc, nI c, sta, ff, nI ln, K, Xs, Ys, Zs, inp, mm, ch, lf, tr) (nI a)) := by
  have hin : vp_in (nI a) 24 := vp_in_nI (by omega) (by decide)
  have hc : (nI a).toNatClampNeg = a := nI_clamp (by omega)
  have n4 : K a ≠ 14 := by rw [hK]; decide
  have n3 : K a ≠ 13 := by rw [hK]; decide
  have n1 : K a ≠ 11 := by rw [hK]; decide
  have hem : cm_Em K a := cm_Em_k n4
  have hple := cm_ps_le K a
  have hinp : vp_in (nI (cm_ps K a)) 24 := vp_in_nI (by omega) (by decide)
  have hcp : (nI (cm_ps K a)).toNatClampNeg = cm_ps K a := nI_clamp (by omega)
  obtain ⟨j, t, hS, hj⟩ := (hG.2.2.2.2.1 a ha).1.2.1 hK
  have hl4 := (hG.2.2.2.2.1 a ha).2.1
  obtain ⟨r1, r2, r3, r4, r5⟩ := hR
  obtain ⟨hco, hso, hrg⟩ := hG.2.1 a ha hem
  have ehs : cm_hs (cm_sec K Xs (nI pv)) (cm_st K a) = cm_sec K Xs (nI pv) j := by rw [hS]; rfl
  have e2 : cm_rgc K (cm_sec K Xs (nI pv)) a = cm_cp (cm_sec K Xs (nI pv)) (cm_st K a) := by unfold cm_rgc; rw [if_neg n3, if_neg n4]
  rw [e2] at hrg
  obtain ⟨ht, hjq, hja, -⟩ := cm_hd hS
  have hinj : vp_in (nI j) 24 := vp_in_nI (by omega) (by decide)
  have hcj : (nI j).toNatClampNeg = j := nI_clamp (by omega)
  have hj3 : K j ≠ 13 := by rw [hj]; decide
  have goY : ∀ post : Int32 → SY → Prop, (Xs j < nI pv → wpY_find (fun r => post (r + 1) (nI pv, nI sv, nI pc, nI sc, nI c, sta, ff, nI ln, K, Xs, Ys, Zs, inp, mm, ch, lf, tr)) (nI pv, nI sv, nI pc, nI sc, nI c, sta, ff, nI ln, K, Xs, Ys, Zs, inp, mm, ch, lf, tr) 14 (nI j) (nI c)) → (¬ Xs j < nI pv → post (nI (a + 1)) (nI pv, nI sv, nI pc, nI sc, nI c, sta, ff, nI ln, K, Xs, Ys, Zs, inp, mm, ch, lf, tr)) → wpY_walk post (nI pv, nI sv, nI pc, nI sc, nI c, sta, ff, nI ln, K, Xs, Ys, Zs, inp, mm, ch, lf, tr) (nI a) := by
    intro post h1 h2
    refine And.intro hin (nm_r (e' := 12) (by rw [hc]; exact hK) (br_t (by decide) (br_f (by decide) (br_f (by decide) (cy_innermost (by omega) (fun e => ?_) (fun j' q' t' e => ?_))))))
    · rw [hS] at e; simp at e
    · rw [hS] at e
      injection e with ea _
      injection ea with ea _
      subst ea
      refine br_t rfl (br_f (nI_pos (by omega)) (And.intro hinj (cy_secret (fun y => br_t rfl ?_) (fun y => br_f (by decide) (br_f (by decide) ?_)))))
      · rw [hcj] at y; exact h1 y
      · rw [hcj] at y; rw [nI_1]; exact h2 y
  by_cases hx : Xs j < nI pv
  · have hs : cm_sec K Xs (nI pv) j = false := cm_sec_f2 hx
    have e1 : cm_opc K (cm_sec K Xs (nI pv)) a = 14 := by unfold cm_opc; rw [if_neg n1, if_pos hK, if_neg (by rw [ehs, hs]; decide)]
    rw [e1] at hco
    obtain ⟨e0, hx1, hx2, hx3, hx4⟩ := cm_end_ex' (Or.inl hj) hG.2.2.2.2.2 (show j < c by omega)
    obtain ⟨e, ⟨he1, he2, he3, he4⟩, hfst⟩ := pk_least (fun i => j < i ∧ i < c ∧ K i = 14 ∧ cm_Hd K i j) ⟨e0, hx1, hx2, hx3, hx4⟩
    obtain ⟨hae, htg⟩ := cm_tgt_jump hG hK hS ha he1 he2 he3 he4 hs
    have hSe : cm_st K (e + 1) = t := (cm_st_aft he3 he4).trans ht.symm
    rw [hS] at r4 r5
    refine ⟨e + 1, ln, dg, ff, mm, mk, ct, ev, ch, lf, tr, ⟨he2, r2, r3, by rw [hSe]; exact r4.2.2, by rw [hSe]; exact r5.2⟩, ?_, by omega, fun post h => ?_, fun post h => goY post (fun _ => ?_) (fun y => absurd hx y)⟩
    · refine cm_M_a (by omega) ha ?_
      unfold cm_rp; rw [hSe, hS]; exact (cm_rs_f hj3).symm
    · refine And.intro hinp (nm_r (e' := 14) (by rw [hcp, hco]) (br_t (by decide) (br_f (by decide) (br_f (by decide) (br_f (by decide) (br_f (by decide) (br_f (by decide) (And.intro hinp ?_))))))))
      rw [hcp, htg]; exact h
    · refine cy_find (by omega) (by omega) (fun i i1 i2 i3 i4 i5 => ?_) (fun hno => absurd ⟨he3, he4⟩ (hno e he1 he2))
      have : i = e := by
        rcases Nat.lt_trichotomy i e with y | y | y
        · exact absurd ⟨i1, i2, i3, i4⟩ (hfst i y)
        · exact y
        · exact absurd ⟨he3, he4⟩ (i5 e he1 y)
      subst this
      rw [nI_1]; exact h
  · have hs : cm_sec K Xs (nI pv) j = true := cm_sec_t hj hx
    have e1 : cm_opc K (cm_sec K Xs (nI pv)) a = 12 := by unfold cm_opc; rw [if_neg n1, if_pos hK, if_pos (ehs.trans hs)]
    rw [e1] at hco
    have hSa : cm_st K (a + 1) = (j, a) :: t := by rw [cm_st_else hK, hS]; rfl
    have hcpj : cm_cp (cm_sec K Xs (nI pv)) (cm_st K a) = cm_cp (cm_sec K Xs (nI pv)) t + 1 := by rw [hS, cm_cp_c, if_pos hs]
    have hcs := cm_cp_le (cm_sec K Xs (nI pv)) (cm_st K a)
    rw [hcpj] at hrg hcs
    have hL1 : (nI (cm_cp (cm_sec K Xs (nI pv)) t + 1)).toNatClampNeg = cm_cp (cm_sec K Xs (nI pv)) t + 1 := nI_clamp (by omega)
    have hL0 : (nI (cm_cp (cm_sec K Xs (nI pv)) t)).toNatClampNeg = cm_cp (cm_sec K Xs (nI pv)) t := nI_clamp (by omega)
    rw [hS] at r4 r5
    refine ⟨a + 1, ln, dg, ff, mm, upd mk (cm_cp (cm_sec K Xs (nI pv)) t + 1) (mk (cm_cp (cm_sec K Xs (nI pv)) t) &&& (mk (cm_cp (cm_sec K Xs (nI pv)) t + 1) ^^^ (-1))), ct, ev, ch, lf, tr, ⟨ha, r2, r3, ?_, ?_⟩, ?_, by omega, fun post h => ?_, fun post h => goY post (fun y => absurd y hx) (fun _ => h)⟩
    · rw [hSa]
      exact cm_MK_else hs (by omega) r4
    · rw [hSa]
      exact cm_CT_if hj r5.2
    · refine cm_M_a (by omega) ha ?_
      unfold cm_rp; rw [hSa, hS, cm_rs_f (e := (j, a)) hj3, cm_rs_f (e := (j, j)) hj3]
    · refine And.intro hinp (nm_r (e' := 12) (by rw [hcp, hco]) (br_t (by decide) (br_f (by decide) (br_t rfl (And.intro hinp (nm_r (e' := nI (cm_cp (cm_sec K Xs (nI pv)) t + 1)) (by rw [hcp, hrg]) ?_))))))
      rw [nI_pred, hL1, hL0]
      refine And.intro (vp_in_nI (by omega) (by decide)) (And.intro (vp_in_nI (by omega) (by decide)) (And.intro (vp_in_nI (by omega) (by decide)) (nm_e ?_)))
      rw [cm_ps_s hem, ← nI_1] at h
      exact h
theorem cm_step_rep {a : Nat} (hb : cm_Bd pv sv pc sc) (hc24 : c ≤ 24) (hv : cm_Vd pv sv K Xs Ys Zs a) (hG : cm_Good K Xs (nI pv) cl co so rg tg c) (ha : a < c) (hR : cm_RI K Xs (nI pv) c a ln dg ff mk ct ev ch lf tr) (hln : ln + 9 ≤ 4096) (hK : K a = 13) : ∃ (a' ln' : Nat) (dg' ff' : Int32) (mm' mk' ct' ev' ch' lf' tr' : Nat → Int32), cm_RI K Xs (nI pv) c a' ln' dg' ff' mk' ct' ev' ch' lf' tr' ∧ cm_M K c a' lf' < cm_M K c a lf ∧ ln' ≤ ln + 9 ∧ (∀ post : Int32 → SX → Prop, post (nI (cm_ps K a')) (o1, o2, o3, o4, o5, o6, nI pv, nI c, sta, ob, orr, os, cl, nI ln', dg', ff', sz, inp, mm', K, Xs, Ys, Zs, bk, bp, bs, be, co, so, rg, tg, mk', ct', ev') → wpX_advance post (o1, o2, o3, o4, o5, o6, nI pv, nI c, sta, ob, orr, os, cl, nI ln, dg, ff, sz, inp, mm, K, Xs, Ys, Zs, bk, bp, bs, be, co, so, rg, tg, mk, ct, ev) (nI (cm_ps K a))) ∧ (∀ post : Int32 → SY → Prop, post (nI a') (nI pv, nI sv, nI pc, nI sc, nI c, sta, ff', nI ln', K, Xs, Ys, Zs, inp, mm', ch', lf', tr') → wpY_walk post (nI pv, nI sv, nI pc, nI sc, nI c, sta, ff, nI ln, K, Xs, Ys, Zs, inp, mm, ch, lf, tr) (nI a)) := by
  have hin : vp_in (nI a) 24 := vp_in_nI (by omega) (by decide)
  have hc : (nI a).toNatClampNeg = a := nI_clamp (by omega)
  have n4 : K a ≠ 14 := by rw [hK]; decide
  have n1 : K a ≠ 11 := by rw [hK]; decide
  have n2 : K a ≠ 12 := by rw [hK]; decide
  have hem : cm_Em K a := cm_Em_k n4
  have hple := cm_ps_le K a
  have hinp : vp_in (nI (cm_ps K a)) 24 := vp_in_nI (by omega) (by decide)
  have hcp : (nI (cm_ps K a)).toNatClampNeg = cm_ps K a := nI_clamp (by omega)
  have hs : cm_sec K Xs (nI pv) a = false := cm_sec_f1 n1
  have hG' := hG
  obtain ⟨r1, r2, r3, r4, r5⟩ := hR
  obtain ⟨hco, hso, hrg⟩ := hG.2.1 a ha hem
  obtain ⟨-, hl2, -⟩ := (hG.2.2.2.2.1 a ha).1.2.2.1 hK
  have e1 : cm_opc K (cm_sec K Xs (nI pv)) a = 15 := by unfold cm_opc; rw [if_neg n1, if_neg n2, if_pos hK]
  have e2 : cm_rgc K (cm_sec K Xs (nI pv)) a = cm_cp (cm_isK K 13) (cm_st K a) := by unfold cm_rgc; rw [if_pos hK]
  rw [e1] at hco
  rw [e2] at hrg
  have hst : cm_st K (a + 1) = (a, a) :: cm_st K a := cm_st_push (Or.inr hK)
  obtain ⟨x, hx16, hX⟩ := hv.2.1 (by rw [hK]; decide) n2 n4
  obtain ⟨b1, b2, b3, b4, -⟩ := hb
  have hcx : (nI x).toNatClampNeg = x := nI_clamp (by omega)
  have hinx : vp_in (nI x) 32 := vp_in_nI (by omega) (by decide)
  have hL0 : (nI (cm_cp (cm_isK K 13) (cm_st K a))).toNatClampNeg = cm_cp (cm_isK K 13) (cm_st K a) := nI_clamp (by omega)
  obtain ⟨n, hn4, hcl⟩ := cm_clamp4 (mm x)
  have goX : ∀ post : Int32 → SX → Prop, ((nI n = 0 → post (tg (cm_ps K a)) (o1, o2, o3, o4, o5, o6, nI pv, nI c, sta, ob, orr, os, cl, nI (ln + 1), dg * 31 + nI a, ff, sz, inp, mm, K, Xs, Ys, Zs, bk, bp, bs, be, co, so, rg, tg, mk, upd ct (cm_cp (cm_isK K 13) (cm_st K a)) (nI n), cm_evu ev ln (nI a))) ∧ (¬ nI n = 0 → post (nI (cm_ps K a) + 1) (o1, o2, o3, o4, o5, o6, nI pv, nI c, sta, ob, orr, os, cl, nI (ln + 1), dg * 31 + nI a, ff, sz, inp, mm, K, Xs, Ys, Zs, bk, bp, bs, be, co, so, rg, tg, mk, upd ct (cm_cp (cm_isK K 13) (cm_st K a)) (nI n), cm_evu ev ln (nI a)))) → wpX_advance post (o1, o2, o3, o4, o5, o6, nI pv, nI c, sta, ob, orr, os, cl, nI ln, dg, ff, sz, inp, mm, K, Xs, Ys, Zs, bk, bp, bs, be, co, so, rg, tg, mk, ct, ev) (nI (cm_ps K a)) := by
    intro post h
    refine And.intro hinp (nm_r (e' := 15) (by rw [hcp, hco]) (br_t (by decide) (br_f (by decide) (br_f (by decide) (br_f (by decide) (br_t rfl ?_))))))
    refine And.intro hinp (nm_r (e' := nI a) (by rw [hcp, hso]) (cx_observe (by omega) ?_))
    refine And.intro hin ?_
    rw [hc, hX]
    refine And.intro hinx ?_
    rw [hcx]
    have key : (vp_in (nI (cm_ps K a)) 24 ∧ (vp_in (rg (nI (cm_ps K a)).toNatClampNeg) 2 ∧ ∀ ct' : Nat → Int32, ct' = upd ct (rg (nI (cm_ps K a)).toNatClampNeg).toNatClampNeg (nI n) → ((nI n = 0 → (vp_in (nI (cm_ps K a)) 24 ∧ post (tg (nI (cm_ps K a)).toNatClampNeg) (o1, o2, o3, o4, o5, o6, nI pv, nI c, sta, ob, orr, os, cl, nI (ln + 1), dg * 31 + nI a, ff, sz, inp, mm, K, Xs, Ys, Zs, bk, bp, bs, be, co, so, rg, tg, mk, ct', cm_evu ev ln (nI a)))) ∧ (¬ nI n = 0 → post (nI (cm_ps K a) + 1) (o1, o2, o3, o4, o5, o6, nI pv, nI c, sta, ob, orr, os, cl, nI (ln + 1), dg * 31 + nI a, ff, sz, inp, mm, K, Xs, Ys, Zs, bk, bp, bs, be, co, so, rg, tg, mk, ct', cm_evu ev ln (nI a)))))) := by
      rw [hcp, hrg, hL0]
      refine And.intro hinp (And.intro (vp_in_nI (by omega) (by decide)) (nm_e ?_))
      exact ⟨fun z => And.intro hinp (h.1 z), h.2⟩
    rcases hcl with ⟨z, rfl⟩ | ⟨z1, z2, z3⟩ | ⟨z1, z2, rfl⟩
    · exact br_f z key
    · refine br_t z1 (br_t z2 ?_)
      rw [z3]
      exact key
    · exact br_t z1 (br_f z2 key)
  have goY : ∀ post : Int32 → SY → Prop, (nI n = 0 → wpY_find (fun r => post (r + 1) (nI pv, nI sv, nI pc, nI sc, nI c, sta, ff, nI (ln + 1), K, Xs, Ys, Zs, inp, mm, ch, upd lf a (nI n), upd tr ln (nI a))) (nI pv, nI sv, nI pc, nI sc, nI c, sta, ff, nI (ln + 1), K, Xs, Ys, Zs, inp, mm, ch, upd lf a (nI n), upd tr ln (nI a)) 14 (nI a) (nI c)) → (¬ nI n = 0 → post (nI a + 1) (nI pv, nI sv, nI pc, nI sc, nI c, sta, ff, nI (ln + 1), K, Xs, Ys, Zs, inp, mm, ch, upd lf a (nI n), upd tr ln (nI a))) → wpY_walk post (nI pv, nI sv, nI pc, nI sc, nI c, sta, ff, nI ln, K, Xs, Ys, Zs, inp, mm, ch, lf, tr) (nI a) := by
    intro post h1 h2
    refine And.intro hin (nm_r (e' := 13) (by rw [hc]; exact hK) (br_t (by decide) (br_f (by decide) (br_t rfl (cy_emit (by omega) ?_)))))
    refine And.intro hin ?_
    rw [hc, hX]
    refine And.intro hinx ?_
    rw [hcx]
    have key : wY_walk_157 post (nI a) (nI n) (nI a) (nI pv) (nI sv) (nI pc) (nI sc) (nI c) sta ff (nI (ln + 1)) K Xs Ys Zs inp mm ch lf (upd tr ln (nI a)) := by
      refine And.intro hin (nm_r (e' := upd lf a (nI n)) (by rw [hc]) (And.intro hin ?_))
      rw [hc, pk_us]
      exact ⟨h1, h2⟩
    refine nm_e ?_
    rcases hcl with ⟨z, rfl⟩ | ⟨z1, z2, z3⟩ | ⟨z1, z2, rfl⟩
    · exact br_f z key
    · refine br_t z1 (br_t z2 ?_)
      rw [z3]
      exact key
    · exact br_t z1 (br_f z2 key)
  have hlfr : ∀ e, e ∈ cm_st K a → upd lf a (nI n) e.1 = lf e.1 := fun e he => pk_un (cm_st_ne e he)
  rcases Nat.eq_zero_or_pos n with hn0 | hn0
  · have hz : nI n = 0 := by rw [hn0]; rfl
    obtain ⟨e0, hx1, hx2, hx3, hx4⟩ := cm_end_ex' (Or.inr hK) hG'.2.2.2.2.2 ha
    obtain ⟨e, ⟨he1, he2, he3, he4⟩, hfst⟩ := pk_least (fun i => a < i ∧ i < c ∧ K i = 14 ∧ cm_Hd K i a) ⟨e0, hx1, hx2, hx3, hx4⟩
    have ht := cm_tgt_end hG' he2 he3 he4 hs (cm_no_else hG' (by omega) hK)
    have hSe := cm_st_aft he3 he4
    refine ⟨e + 1, ln + 1, dg * 31 + nI a, ff, mm, mk, upd ct (cm_cp (cm_isK K 13) (cm_st K a)) (nI n), cm_evu ev ln (nI a), ch, upd lf a (nI n), upd tr ln (nI a), ⟨he2, cm_Tr_1 r2 _, r3, ?_, ?_⟩, ?_, by omega, fun post h => goX post (br_t hz ?_), fun post h => goY post (fun _ => ?_) (fun y => absurd hz y)⟩
    · rw [hSe]
      exact r4
    · rw [hSe]
      exact cm_CT_fr hlfr (fun i hi => pk_un (by omega)) r5
    · have h1 : cm_M K c (e + 1) (upd lf a (nI n)) < cm_M K c a (upd lf a (nI n)) := by
        refine cm_M_a (by omega) ha ?_
        unfold cm_rp; rw [hSe]
      have h2 : cm_M K c a (upd lf a (nI n)) = cm_M K c a lf := cm_M_fr (fun p hp => pk_un (by have := cm_rp_lt hp; omega))
      omega
    · rw [ht]; exact h
    · refine cy_find ha (by omega) (fun i i1 i2 i3 i4 i5 => ?_) (fun hno => absurd ⟨he3, he4⟩ (hno e he1 he2))
      have : i = e := by
        rcases Nat.lt_trichotomy i e with y | y | y
        · exact absurd ⟨i1, i2, i3, i4⟩ (hfst i y)
        · exact y
        · exact absurd ⟨he3, he4⟩ (i5 e he1 y)
      subst this
      rw [nI_1]; exact h
  · have hz : ¬ nI n = 0 := nI_ne0 hn0 (by omega)
    refine ⟨a + 1, ln + 1, dg * 31 + nI a, ff, mm, mk, upd ct (cm_cp (cm_isK K 13) (cm_st K a)) (nI n), cm_evu ev ln (nI a), ch, upd lf a (nI n), upd tr ln (nI a), ⟨ha, cm_Tr_1 r2 _, r3, ?_, ?_⟩, cm_M_b ha hK hn4, by omega, fun post h => goX post (br_f hz ?_), fun post h => goY post (fun y => absurd y hz) (fun _ => ?_)⟩
    · rw [hst]
      exact cm_MK_pub hs r4
    · rw [hst]
      exact cm_CT_rep rfl cm_st_ne hn0 hn4 r5
    · rw [cm_ps_s hem, ← nI_1] at h; exact h
    · rw [nI_1]; exact h
theorem cm_step_end {a : Nat} (hb : cm_Bd pv sv pc sc) (hc24 : c ≤ 24) (hv : cm_Vd pv sv K Xs Ys Zs a) (hG : cm_Good K Xs (nI pv) cl co so rg tg c) (ha : a < c) (hR : cm_RI K Xs (nI pv) c a ln dg ff mk ct ev ch lf tr) (hln : ln + 9 ≤ 4096) (hK : K a = 14) (hem : cm_Em K a) : ∃ (a' ln' : Nat) (dg' ff' : Int32) (mm' mk' ct' ev' ch' lf' tr' : Nat → Int32), cm_RI K Xs (nI pv) c a' ln' dg' ff' mk' ct' ev' ch' lf' tr' ∧ cm_M K c a' lf' < cm_M K c a lf ∧ ln' ≤ ln + 9 ∧ (∀ post : Int32 → SX → Prop, post (nI (cm_ps K a')) (o1, o2, o3, o4, o5, o6, nI pv, nI c, sta, ob, orr, os, cl, nI ln', dg', ff', sz, inp, mm', K, Xs, Ys, Zs, bk, bp, bs, be, co, so, rg, tg, mk', ct', ev') → wpX_advance post (o1, o2, o3, o4, o5, o6, nI pv, nI c, sta, ob, orr, os, cl, nI ln, dg, ff, sz, inp, mm, K, Xs, Ys, Zs, bk, bp, bs, be, co, so, rg, tg, mk, ct, ev) (nI (cm_ps K a))) ∧ (∀ post : Int32 → SY → Prop, post (nI a') (nI pv, nI sv, nI pc, nI sc, nI c, sta, ff', nI ln', K, Xs, Ys, Zs, inp, mm', ch', lf', tr') → wpY_walk post (nI pv, nI sv, nI pc, nI sc, nI c, sta, ff, nI ln, K, Xs, Ys, Zs, inp, mm, ch, lf, tr) (nI a)) := by
  have hin : vp_in (nI a) 24 := vp_in_nI (by omega) (by decide)
  have hc : (nI a).toNatClampNeg = a := nI_clamp (by omega)
  have n3 : K a ≠ 13 := by rw [hK]; decide
  have n1 : K a ≠ 11 := by rw [hK]; decide
  have n2 : K a ≠ 12 := by rw [hK]; decide
  have hple := cm_ps_le K a
  have hinp : vp_in (nI (cm_ps K a)) 24 := vp_in_nI (by omega) (by decide)
  have hcp : (nI (cm_ps K a)).toNatClampNeg = cm_ps K a := nI_clamp (by omega)
  have hl2 := (hG.2.2.2.2.1 a ha).2.2
  have hne := (hG.2.2.2.2.1 a ha).1.2.2.2 hK
  obtain ⟨r1, r2, r3, r4, r5⟩ := hR
  obtain ⟨hco, hso, hrg⟩ := hG.2.1 a ha hem
  match hS : cm_st K a with
  | [] => exact absurd hS hne
  | (j, q) :: t =>
    obtain ⟨ht, hjq, hqa, hj⟩ := cm_hd hS
    have hj13 : K j = 13 := by
      rcases hj with z | z
      · exact absurd ⟨hK, by rw [hS]; exact z⟩ hem
      · exact z
    have hinj : vp_in (nI j) 24 := vp_in_nI (by omega) (by decide)
    have hcj : (nI j).toNatClampNeg = j := nI_clamp (by omega)
    have e1 : cm_opc K (cm_sec K Xs (nI pv)) a = 16 := by unfold cm_opc; rw [if_neg n1, if_neg n2, if_neg n3, if_pos hK]
    have e2 : cm_rgc K (cm_sec K Xs (nI pv)) a = cm_cp (cm_isK K 13) t := by unfold cm_rgc; rw [if_neg n3, if_pos hK, hS]; rfl
    rw [e1] at hco
    rw [e2] at hrg
    have htg := hG.2.2.2.1 a ha hK j q t hS hj13
    have hs : cm_sec K Xs (nI pv) j = false := cm_sec_f1 (by rw [hj13]; decide)
    rw [hS, cm_cp_c, if_pos (cm_isK_t hj13)] at hl2
    have hL0 : (nI (cm_cp (cm_isK K 13) t)).toNatClampNeg = cm_cp (cm_isK K 13) t := nI_clamp (by omega)
    have hinL : vp_in (nI (cm_cp (cm_isK K 13) t)) 2 := vp_in_nI (by omega) (by decide)
    rw [hS] at r4 r5
    obtain ⟨r5a, r5b⟩ := r5
    obtain ⟨hct, n, hn1, hn4, hlf⟩ := r5a hj13
    have hct : ct (cm_cp (cm_isK K 13) t) = lf j := hct
    have hlf : lf j = nI n := hlf
    have hsub : lf j - 1 = nI (n - 1) := by
      rw [hlf]
      obtain ⟨m, rfl⟩ : ∃ m, n = m + 1 := ⟨n - 1, by omega⟩
      exact nI_pred m
    have hemj : cm_Em K j := cm_Em_k (by rw [hj13]; decide)
    have hnj : ∀ x, x ∈ t → x.1 ≠ j := by rw [ht]; exact cm_st_ne
    have goX : ∀ post : Int32 → SX → Prop, ((nI (n - 1) ≤ 0 → post (nI (cm_ps K a) + 1) (o1, o2, o3, o4, o5, o6, nI pv, nI c, sta, ob, orr, os, cl, nI ln, dg, ff, sz, inp, mm, K, Xs, Ys, Zs, bk, bp, bs, be, co, so, rg, tg, mk, upd ct (cm_cp (cm_isK K 13) t) (nI (n - 1)), ev)) ∧ (¬ nI (n - 1) ≤ 0 → post (nI (cm_ps K j + 1)) (o1, o2, o3, o4, o5, o6, nI pv, nI c, sta, ob, orr, os, cl, nI ln, dg, ff, sz, inp, mm, K, Xs, Ys, Zs, bk, bp, bs, be, co, so, rg, tg, mk, upd ct (cm_cp (cm_isK K 13) t) (nI (n - 1)), ev))) → wpX_advance post (o1, o2, o3, o4, o5, o6, nI pv, nI c, sta, ob, orr, os, cl, nI ln, dg, ff, sz, inp, mm, K, Xs, Ys, Zs, bk, bp, bs, be, co, so, rg, tg, mk, ct, ev) (nI (cm_ps K a)) := by
      intro post h
      refine And.intro hinp (nm_r (e' := 16) (by rw [hcp, hco]) (br_t (by decide) (br_f (by decide) (br_f (by decide) (br_f (by decide) (br_f (by decide) (br_t rfl ?_)))))))
      refine And.intro hinp (nm_r (e' := nI (cm_cp (cm_isK K 13) t)) (by rw [hcp, hrg]) (And.intro hinL (And.intro hinL (nm_r (e' := upd ct (cm_cp (cm_isK K 13) t) (nI (n - 1))) (by rw [hL0, hct, hsub]) (And.intro hinL ?_)))))
      rw [hL0, pk_us, hcp, htg]
      exact ⟨h.1, fun z => And.intro hinp (h.2 z)⟩
    have goY : ∀ post : Int32 → SY → Prop, ((nI (n - 1) ≤ 0 → post (nI a + 1) (nI pv, nI sv, nI pc, nI sc, nI c, sta, ff, nI ln, K, Xs, Ys, Zs, inp, mm, ch, upd lf j (nI (n - 1)), tr)) ∧ (¬ nI (n - 1) ≤ 0 → post (nI j + 1) (nI pv, nI sv, nI pc, nI sc, nI c, sta, ff, nI ln, K, Xs, Ys, Zs, inp, mm, ch, upd lf j (nI (n - 1)), tr))) → wpY_walk post (nI pv, nI sv, nI pc, nI sc, nI c, sta, ff, nI ln, K, Xs, Ys, Zs, inp, mm, ch, lf, tr) (nI a) := by
      intro post h
      refine And.intro hin (nm_r (e' := 14) (by rw [hc]; exact hK) (br_t (by decide) (br_f (by decide) (br_f (by decide) (cy_innermost (by omega) (fun e => ?_) (fun j' q' t' e => ?_))))))
      · rw [hS] at e; simp at e
      · rw [hS] at e
        injection e with ea _
        injection ea with ea _
        subst ea
        refine br_f (by decide) (br_t rfl (br_f (nI_pos (by omega)) (And.intro hinj (br_t (by rw [hcj]; exact hj13) (And.intro hinj (And.intro hinj (nm_r (e' := upd lf j (nI (n - 1))) (by rw [hcj, hsub]) (And.intro hinj ?_))))))))
        rw [hcj, pk_us]
        exact h
    rcases Nat.lt_or_ge n 2 with hn | hn
    · have hz : nI (n - 1) ≤ 0 := nI_le (b := 0) (by omega) (by decide)
      have hSe : cm_st K (a + 1) = t := by rw [cm_st_end hK, hS]; rfl
      refine ⟨a + 1, ln, dg, ff, mm, mk, upd ct (cm_cp (cm_isK K 13) t) (nI (n - 1)), ev, ch, upd lf j (nI (n - 1)), tr, ⟨ha, r2, r3, ?_, ?_⟩, cm_M_d ha hK hS hj13, by omega, fun post h => goX post (br_t hz ?_), fun post h => goY post (br_t hz ?_)⟩
      · rw [hSe]; exact r4.2.2
      · rw [hSe]; exact cm_CT_fr (fun x hx => pk_un (hnj x hx)) (fun i hi => pk_un (by omega)) r5b
      · rw [cm_ps_s hem, ← nI_1] at h; exact h
      · rw [nI_1]; exact h
    · have hz : ¬ nI (n - 1) ≤ 0 := nI_nle (by omega) (by omega)
      have hSe : cm_st K (j + 1) = (j, j) :: t := by rw [cm_st_push (Or.inr hj13), ht]
      refine ⟨j + 1, ln, dg, ff, mm, mk, upd ct (cm_cp (cm_isK K 13) t) (nI (n - 1)), ev, ch, upd lf j (nI (n - 1)), tr, ⟨by omega, r2, r3, ?_, ?_⟩, cm_M_c ha hS hj13 hn4 hn hlf, by omega, fun post h => goX post (br_f hz ?_), fun post h => goY post (br_f hz ?_)⟩
      · rw [hSe]; exact cm_MK_pub hs r4.2.2
      · rw [hSe]; exact cm_CT_rep rfl hnj (by omega) (by omega) r5b
      · rw [cm_ps_s hemj] at h; exact h
      · rw [nI_1]; exact h
/-- both step -/
theorem cm_step {a : Nat} (hsz : cm_Sz pv sv pc sc sz) (hb : cm_Bd pv sv pc sc) (hc24 : c ≤ 24) (hv : cm_Vd pv sv K Xs Ys Zs a) (hG : cm_Good K Xs (nI pv) cl co so rg tg c) (ha : a < c) (hR : cm_RI K Xs (nI pv) c a ln dg ff mk ct ev ch lf tr) (hln : ln + 9 ≤ 4096) (hem : cm_Em K a) : ∃ (a' ln' : Nat) (dg' ff' : Int32) (mm' mk' ct' ev' ch' lf' tr' : Nat → Int32), cm_RI K Xs (nI pv) c a' ln' dg' ff' mk' ct' ev' ch' lf' tr' ∧ cm_M K c a' lf' < cm_M K c a lf ∧ ln' ≤ ln + 9 ∧ (∀ post : Int32 → SX → Prop, post (nI (cm_ps K a')) (o1, o2, o3, o4, o5, o6, nI pv, nI c, sta, ob, orr, os, cl, nI ln', dg', ff', sz, inp, mm', K, Xs, Ys, Zs, bk, bp, bs, be, co, so, rg, tg, mk', ct', ev') → wpX_advance post (o1, o2, o3, o4, o5, o6, nI pv, nI c, sta, ob, orr, os, cl, nI ln, dg, ff, sz, inp, mm, K, Xs, Ys, Zs, bk, bp, bs, be, co, so, rg, tg, mk, ct, ev) (nI (cm_ps K a))) ∧ (∀ post : Int32 → SY → Prop, post (nI a') (nI pv, nI sv, nI pc, nI sc, nI c, sta, ff', nI ln', K, Xs, Ys, Zs, inp, mm', ch', lf', tr') → wpY_walk post (nI pv, nI sv, nI pc, nI sc, nI c, sta, ff, nI ln, K, Xs, Ys, Zs, inp, mm, ch, lf, tr) (nI a)) := by
  rcases cm_Vd_k hv with h | h | h | h | ⟨hf, hf', n1, n2, n3, n4⟩
  · by_cases hx : Xs a < nI pv
    · exact cm_step_pif hb hc24 hv hG ha hR hln h hx
    · exact cm_step_sif hb hc24 hv hG ha hR hln h hx
  · exact cm_step_else hb hc24 hv hG ha hR hln h
  · exact cm_step_rep hb hc24 hv hG ha hR hln h
  · exact cm_step_end hb hc24 hv hG ha hR hln h hem
  · exact cm_step_flat hsz hb hc24 hv hG ha hR hln hf hf' n1 n2 n3 n4
/-- the END of an IF: Y alone steps -/
theorem cm_step_y {a : Nat} (hc24 : c ≤ 24) (hG : cm_Good K Xs (nI pv) cl co so rg tg c) (ha : a < c) (hR : cm_RI K Xs (nI pv) c a ln dg ff mk ct ev ch lf tr) (hem : ¬ cm_Em K a) : cm_RI K Xs (nI pv) c (a + 1) ln dg ff mk ct ev ch lf tr ∧ cm_M K c (a + 1) lf < cm_M K c a lf ∧ cm_ps K (a + 1) = cm_ps K a ∧ (∀ post : Int32 → SY → Prop, post (nI (a + 1)) (nI pv, nI sv, nI pc, nI sc, nI c, sta, ff, nI ln, K, Xs, Ys, Zs, inp, mm, ch, lf, tr) → wpY_walk post (nI pv, nI sv, nI pc, nI sc, nI c, sta, ff, nI ln, K, Xs, Ys, Zs, inp, mm, ch, lf, tr) (nI a)) := by
  have hin : vp_in (nI a) 24 := vp_in_nI (by omega) (by decide)
  have hc : (nI a).toNatClampNeg = a := nI_clamp (by omega)
  obtain ⟨hK, htk⟩ := Classical.not_not.mp hem
  obtain ⟨r1, r2, r3, r4, r5⟩ := hR
  match hS : cm_st K a with
  | [] => rw [hS] at htk; exact absurd (show (0 : Int32) = 11 from htk) (by decide)
  | (j, q) :: t =>
    have hj : K j = 11 := by rw [hS] at htk; exact htk
    obtain ⟨ht, hjq, hqa, -⟩ := cm_hd hS
    have hinj : vp_in (nI j) 24 := vp_in_nI (by omega) (by decide)
    have hcj : (nI j).toNatClampNeg = j := nI_clamp (by omega)
    have hj3 : K j ≠ 13 := by rw [hj]; decide
    have hSe : cm_st K (a + 1) = t := by rw [cm_st_end hK, hS]; rfl
    have hps := cm_ps_n hK htk
    rw [hS] at r4 r5
    refine ⟨⟨ha, r2, r3, by rw [hSe]; exact r4.2.2, by rw [hSe]; exact r5.2⟩, ?_, hps, fun post h => ?_⟩
    · refine cm_M_a (by omega) ha ?_
      unfold cm_rp; rw [hSe, hS]; exact (cm_rs_f hj3).symm
    · refine And.intro hin (nm_r (e' := 14) (by rw [hc]; exact hK) (br_t (by decide) (br_f (by decide) (br_f (by decide) (cy_innermost (by omega) (fun e => ?_) (fun j' q' t' e => ?_))))))
      · rw [hS] at e; simp at e
      · rw [hS] at e
        injection e with ea _
        injection ea with ea _
        subst ea
        refine br_f (by decide) (br_t rfl (br_f (nI_pos (by omega)) (And.intro hinj (br_f (by rw [hcj]; exact hj3) ?_))))
        rw [nI_1]; exact h
end
end
section
/-- the first d cells from i on are copied -/
def cm_cpf (inp : Nat → Int32) : Nat → Nat → (Nat → Int32) → (Nat → Int32)
  | 0, _, m => m
  | d + 1, i, m => cm_cpf inp d (i + 1) (upd m i (inp i))
section
variable {o1 o2 o3 o4 o5 o6 sta ob orr os cl dg ff : Int32} {pv sv pc sc c ln : Nat} {sz inp mm K Xs Ys Zs bk bp bs be co so rg tg mk ct ev ch lf tr : Nat → Int32}
theorem cm_runl (hb : cm_Bd pv sv pc sc) (hsz : cm_Sz pv sv pc sc sz) (hc24 : c ≤ 24) (hv : ∀ i, i < c → cm_Vd pv sv K Xs Ys Zs i) (hG : cm_Good K Xs (nI pv) cl co so rg tg c) : ∀ (N a ln sX sY : Nat) (dg ff : Int32) (mm mk ct ev ch lf tr : Nat → Int32), cm_RI K Xs (nI pv) c a ln dg ff mk ct ev ch lf tr → cm_M K c a lf ≤ N → ln + 9 * N ≤ 3456 → sX + N ≤ 900 → sY + N ≤ 900 →
    ∃ (ln' : Nat) (dg' ff' : Int32) (mm' mk' ct' ev' ch' lf' tr' : Nat → Int32), cm_Tr ln' dg' ev' tr' ∧ ln' ≤ 4096 ∧ (∀ (post : Int32 → SX → Prop) (n : Nat), N < n → post 1 (o1, o2, o3, o4, o5, o6, nI pv, nI c, sta, ob, orr, os, cl, nI ln', dg', ff', sz, inp, mm', K, Xs, Ys, Zs, bk, bp, bs, be, co, so, rg, tg, mk', ct', ev') → wX_run_18 post n (nI (cm_ps K a)) (nI sX) o1 o2 o3 o4 o5 o6 (nI pv) (nI c) sta ob orr os cl (nI ln) dg ff sz inp mm K Xs Ys Zs bk bp bs be co so rg tg mk ct ev) ∧ (∀ (post : Int32 → SY → Prop) (n : Nat), N < n → post 1 (nI pv, nI sv, nI pc, nI sc, nI c, sta, ff', nI ln', K, Xs, Ys, Zs, inp, mm', ch', lf', tr') → wY_run_50 post n (nI a) (nI sY) (nI pv) (nI sv) (nI pc) (nI sc) (nI c) sta ff (nI ln) K Xs Ys Zs inp mm ch lf tr) := by
  intro N
  induction N with
  | zero =>
    intro a ln sX sY dg ff mm mk ct ev ch lf tr hR hM hl hX hY
    by_cases ha : a < c
    · by_cases hem : cm_Em K a
      · obtain ⟨a', ln', dg', ff', mm', mk', ct', ev', ch', lf', tr', h1, h2, _⟩ := cm_step (o1 := o1) (o2 := o2) (o3 := o3) (o4 := o4) (o5 := o5) (o6 := o6) (sta := sta) (ob := ob) (orr := orr) (os := os) (cl := cl) (dg := dg) (ff := ff) (pv := pv) (c := c) (ln := ln) (sz := sz) (inp := inp) (mm := mm) (K := K) (Xs := Xs) (Ys := Ys) (Zs := Zs) (bk := bk) (bp := bp) (bs := bs) (be := be) (co := co) (so := so) (rg := rg) (tg := tg) (mk := mk) (ct := ct) (ev := ev) (sv := sv) (pc := pc) (sc := sc) (ch := ch) (lf := lf) (tr := tr) hsz hb hc24 (hv a ha) hG ha hR (by omega) hem
        omega
      · obtain ⟨h1, h2, _⟩ := cm_step_y (sta := sta) (ff := ff) (pv := pv) (sv := sv) (pc := pc) (sc := sc) (c := c) (ln := ln) (inp := inp) (mm := mm) (K := K) (Xs := Xs) (Ys := Ys) (Zs := Zs) (ch := ch) (lf := lf) (tr := tr) hc24 hG ha hR hem
        omega
    · have hac : a = c := by have := hR.1; omega
      subst hac
      refine ⟨ln, dg, ff, mm, mk, ct, ev, ch, lf, tr, hR.2.1, by omega, fun post n hn h => ?_, fun post n hn h => ?_⟩
      · obtain ⟨m, rfl⟩ : ∃ m, n = m + 1 := ⟨n - 1, by omega⟩
        refine br_f (nI_ge (b := 1024) (by omega) (by decide)) (br_t ?_ h)
        rw [hG.1]; exact nI_le (Nat.le_refl _) (by have := cm_ps_le K a; omega)
      · obtain ⟨m, rfl⟩ : ∃ m, n = m + 1 := ⟨n - 1, by omega⟩
        exact br_f (nI_ge (b := 1000) (by omega) (by decide)) (br_f (nI_pos (by omega)) (br_f (nI_nlt (Nat.le_refl _) (by omega)) h))
  | succ N ih =>
    intro a ln sX sY dg ff mm mk ct ev ch lf tr hR hM hl hX hY
    by_cases ha : a < c
    · by_cases hem : cm_Em K a
      · obtain ⟨a', ln', dg', ff', mm', mk', ct', ev', ch', lf', tr', h1, h2, h3, hsX, hsY⟩ := cm_step (o1 := o1) (o2 := o2) (o3 := o3) (o4 := o4) (o5 := o5) (o6 := o6) (sta := sta) (ob := ob) (orr := orr) (os := os) (cl := cl) (dg := dg) (ff := ff) (pv := pv) (c := c) (ln := ln) (sz := sz) (inp := inp) (mm := mm) (K := K) (Xs := Xs) (Ys := Ys) (Zs := Zs) (bk := bk) (bp := bp) (bs := bs) (be := be) (co := co) (so := so) (rg := rg) (tg := tg) (mk := mk) (ct := ct) (ev := ev) (sv := sv) (pc := pc) (sc := sc) (ch := ch) (lf := lf) (tr := tr) hsz hb hc24 (hv a ha) hG ha hR (by omega) hem
        obtain ⟨ln2, dg2, ff2, mm2, mk2, ct2, ev2, ch2, lf2, tr2, t1, t2, t3, t4⟩ := ih a' ln' (sX + 1) (sY + 1) dg' ff' mm' mk' ct' ev' ch' lf' tr' h1 (by omega) (by omega) (by omega) (by omega)
        refine ⟨ln2, dg2, ff2, mm2, mk2, ct2, ev2, ch2, lf2, tr2, t1, t2, fun post n hn h => ?_, fun post n hn h => ?_⟩
        · obtain ⟨m, rfl⟩ : ∃ m, n = m + 1 := ⟨n - 1, by omega⟩
          refine br_f (nI_ge (b := 1024) (by omega) (by decide)) (br_f ?_ (hsX _ (nm_r (nI_1 sX) (t3 post m (by omega) h))))
          rw [hG.1]
          have := cm_ps_lt hem ha
          have := cm_ps_le K c
          exact nI_ge (by omega) (by omega)
        · obtain ⟨m, rfl⟩ : ∃ m, n = m + 1 := ⟨n - 1, by omega⟩
          exact br_f (nI_ge (b := 1000) (by omega) (by decide)) (br_f (nI_pos (by omega)) (br_t (nI_lt ha (by omega)) (hsY _ (nm_r (nI_1 sY) (t4 post m (by omega) h)))))
      · obtain ⟨h1, h2, h3, hsY⟩ := cm_step_y (sta := sta) (ff := ff) (pv := pv) (sv := sv) (pc := pc) (sc := sc) (c := c) (ln := ln) (inp := inp) (mm := mm) (K := K) (Xs := Xs) (Ys := Ys) (Zs := Zs) (ch := ch) (lf := lf) (tr := tr) hc24 hG ha hR hem
        obtain ⟨ln2, dg2, ff2, mm2, mk2, ct2, ev2, ch2, lf2, tr2, t1, t2, t3, t4⟩ := ih (a + 1) ln sX (sY + 1) dg ff mm mk ct ev ch lf tr h1 (by omega) (by omega) (by omega) (by omega)
        refine ⟨ln2, dg2, ff2, mm2, mk2, ct2, ev2, ch2, lf2, tr2, t1, t2, fun post n hn h => ?_, fun post n hn h => ?_⟩
        · have := t3 post n (by omega) h
          rw [h3] at this
          exact this
        · obtain ⟨m, rfl⟩ : ∃ m, n = m + 1 := ⟨n - 1, by omega⟩
          exact br_f (nI_ge (b := 1000) (by omega) (by decide)) (br_f (nI_pos (by omega)) (br_t (nI_lt ha (by omega)) (hsY _ (nm_r (nI_1 sY) (t4 post m (by omega) h)))))
    · have hac : a = c := by have := hR.1; omega
      subst hac
      refine ⟨ln, dg, ff, mm, mk, ct, ev, ch, lf, tr, hR.2.1, by omega, fun post n hn h => ?_, fun post n hn h => ?_⟩
      · obtain ⟨m, rfl⟩ : ∃ m, n = m + 1 := ⟨n - 1, by omega⟩
        refine br_f (nI_ge (b := 1024) (by omega) (by decide)) (br_t ?_ h)
        rw [hG.1]; exact nI_le (Nat.le_refl _) (by have := cm_ps_le K a; omega)
      · obtain ⟨m, rfl⟩ : ∃ m, n = m + 1 := ⟨n - 1, by omega⟩
        exact br_f (nI_ge (b := 1000) (by omega) (by decide)) (br_f (nI_pos (by omega)) (br_f (nI_nlt (Nat.le_refl _) (by omega)) h))
theorem cx_begin_l {post : SX → Prop} : ∀ (d i : Nat) (mm : Nat → Int32), i + d = 32 → post (o1, o2, o3, o4, o5, o6, nI pv, nI c, sta, ob, orr, os, cl, 0, 7, -1, sz, inp, cm_cpf inp d i mm, K, Xs, Ys, Zs, bk, bp, bs, be, co, so, rg, tg, upd mk 0 (-1), ct, ev) → wX_begin_2 post o1 o2 o3 o4 o5 o6 (nI pv) (nI c) sta ob orr os cl (nI ln) dg ff (d + 1) (nI i) sz inp mm K Xs Ys Zs bk bp bs be co so rg tg mk ct ev
  | 0, i, mm, hi, h => by
    have e : i = 32 := by omega
    subst e
    exact br_t (by decide) (nm_e h)
  | d + 1, i, mm, hi, h => by
    have hin : vp_in (nI i) 32 := vp_in_nI (by omega) (by decide)
    have hc : (nI i).toNatClampNeg = i := nI_clamp (by omega)
    refine br_f (nI_ge (b := 32) (by omega) (by decide)) (And.intro hin (And.intro hin (nm_r (e' := upd mm i (inp i)) (by rw [hc]) (nm_r (nI_1 i) ?_))))
    exact cx_begin_l d (i + 1) _ (by omega) h
theorem cy_begin_l {post : Int32 → SY → Prop} : ∀ (d i : Nat) (mm : Nat → Int32), i + d = 32 → (∃ n, wY_run_50 post n 0 0 (nI pv) (nI sv) (nI pc) (nI sc) (nI c) sta (-1) 0 K Xs Ys Zs inp (cm_cpf inp d i mm) ch lf tr) → wY_run_12 post (nI pv) (nI sv) (nI pc) (nI sc) (nI c) sta ff (nI ln) (d + 1) (nI i) K Xs Ys Zs inp mm ch lf tr
  | 0, i, mm, hi, h => by
    have e : i = 32 := by omega
    subst e
    exact br_t (by decide) h
  | d + 1, i, mm, hi, h => by
    have hin : vp_in (nI i) 32 := vp_in_nI (by omega) (by decide)
    have hc : (nI i).toNatClampNeg = i := nI_clamp (by omega)
    refine br_f (nI_ge (b := 32) (by omega) (by decide)) (And.intro hin (And.intro hin (nm_r (e' := upd mm i (inp i)) (by rw [hc]) (nm_r (nI_1 i) ?_))))
    exact cy_begin_l d (i + 1) _ (by omega) h
theorem cm_run (hb : cm_Bd pv sv pc sc) (hsz : cm_Sz pv sv pc sc sz) (hc24 : c ≤ 24) (hv : ∀ i, i < c → cm_Vd pv sv K Xs Ys Zs i) (hs : sta = -1) (hG : cm_Good K Xs (nI pv) cl co so rg tg c) : ∃ (ln' : Nat) (dg' ff' : Int32) (mm' mk' ct' ev' ch' lf' tr' : Nat → Int32), cm_Tr ln' dg' ev' tr' ∧ ln' ≤ 4096 ∧ (∀ post : Int32 → SX → Prop, post 1 (o1, o2, o3, o4, o5, o6, nI pv, nI c, sta, ob, orr, os, cl, nI ln', dg', ff', sz, inp, mm', K, Xs, Ys, Zs, bk, bp, bs, be, co, so, rg, tg, mk', ct', ev') → wpX_run post (o1, o2, o3, o4, o5, o6, nI pv, nI c, sta, ob, orr, os, cl, nI ln, dg, ff, sz, inp, mm, K, Xs, Ys, Zs, bk, bp, bs, be, co, so, rg, tg, mk, ct, ev)) ∧ (∀ post : Int32 → SY → Prop, post 1 (nI pv, nI sv, nI pc, nI sc, nI c, sta, ff', nI ln', K, Xs, Ys, Zs, inp, mm', ch', lf', tr') → wpY_run post (nI pv, nI sv, nI pc, nI sc, nI c, sta, ff, nI ln, K, Xs, Ys, Zs, inp, mm, ch, lf, tr)) := by
  have hM : cm_M K c 0 lf ≤ 16 * c := cm_M_0 (fun i hi => (hG.2.2.2.2.1 i hi).2.2)
  have hR : cm_RI K Xs (nI pv) c 0 0 7 (-1) (upd mk 0 (-1)) ct ev ch lf tr := ⟨Nat.zero_le _, ⟨rfl, fun i hi => absurd hi (Nat.not_lt_zero _)⟩, Or.inl rfl, pk_us, trivial⟩
  obtain ⟨ln2, dg2, ff2, mm2, mk2, ct2, ev2, ch2, lf2, tr2, t1, t2, t3, t4⟩ := cm_runl (o1 := o1) (o2 := o2) (o3 := o3) (o4 := o4) (o5 := o5) (o6 := o6) (sta := sta) (ob := ob) (orr := orr) (os := os) (inp := inp) (bk := bk) (bp := bp) (bs := bs) (be := be) hb hsz hc24 hv hG 384 0 0 0 0 7 (-1) (cm_cpf inp 32 0 mm) (upd mk 0 (-1)) ct ev ch lf tr hR (by omega) (by omega) (by omega) (by omega)
  refine ⟨ln2, dg2, ff2, mm2, mk2, ct2, ev2, ch2, lf2, tr2, t1, t2, fun post h => ?_, fun post h => ?_⟩
  · refine br_t hs ⟨33, cx_begin_l 32 0 mm rfl ?_⟩
    exact ⟨385, t3 post 385 (by omega) h⟩
  · refine br_t hs ⟨33, cy_begin_l 32 0 mm rfl ?_⟩
    exact ⟨385, t4 post 385 (by omega) h⟩
end
end
section
def cm_V (pv sv : Nat) (x : Int32) : Prop := ∃ j, j < pv + sv ∧ x = nI j
def cm_Ok (pv sv : Nat) (kd x y z : Int32) : Prop :=
  (kd ≠ 10 → kd ≠ 12 → kd ≠ 14 → cm_V pv sv x) ∧ (kd = 10 → x = 1 ∨ x = 2) ∧ (kd = 9 → y = 1 ∨ y = 2) ∧ (kd < 11 → kd ≠ 0 → kd ≠ 9 → cm_V pv sv y) ∧ (kd < 11 → kd ≠ 0 → cm_V pv sv z)
def cm_px (kd x : Int32) : Int32 := if kd = 12 ∨ kd = 14 then 0 else x
def cm_py (kd y : Int32) : Int32 := if 10 < kd then 0 else y
def cm_pz (kd z : Int32) : Int32 := if kd < 1 ∨ 10 < kd then 0 else z
theorem cm_kd_11 {kd : Int32} (h : ∃ t, t ≤ 14 ∧ kd = nI t) (n1 : kd ≠ 11) (n2 : kd ≠ 12) (n3 : kd ≠ 13) (n4 : kd ≠ 14) : kd < 11 := by
  obtain ⟨t, ht, rfl⟩ := h
  have a : t ≠ 11 := by rintro rfl; exact n1 rfl
  have b : t ≠ 12 := by rintro rfl; exact n2 rfl
  have c : t ≠ 13 := by rintro rfl; exact n3 rfl
  have d : t ≠ 14 := by rintro rfl; exact n4 rfl
  exact nI_lt (b := 11) (by omega) (by decide)
theorem cm_kd_lt {kd : Int32} (h : ∃ t, t ≤ 14 ∧ kd = nI t) : (kd < 11 ↔ ¬ 10 < kd) ∧ (kd < 1 ↔ kd = 0) := by
  obtain ⟨t, ht, rfl⟩ := h
  have a : nI t < 11 ↔ t < 11 := nI_ltI (b := 11) (by omega) (by decide)
  have b : 10 < nI t ↔ 10 < t := nI_ltI (a := 10) (by decide) (by omega)
  have c : nI t < 1 ↔ t < 1 := nI_ltI (b := 1) (by omega) (by decide)
  have d : nI t = 0 ↔ t = 0 := nI_eq (b := 0) (by omega) (by decide)
  rw [a, b, c, d]
  omega
section
variable {o1 o2 o3 o4 o5 o6 sta ob orr os cl dg ff : Int32} {pv sv pc sc c ln : Nat} {sz inp mm K Xs Ys Zs bk bp bs be co so rg tg mk ct ev ch lf tr : Nat → Int32}
theorem cx_isVar {post : Int32 → Prop} {x : Int32} (hb : cm_Bd pv sv pc sc) (hsz : cm_Sz pv sv pc sc sz) (h1 : cm_V pv sv x → post 1) (h0 : ¬ cm_V pv sv x → post 0) : wpX_isVariable post (o1, o2, o3, o4, o5, o6, nI pv, nI c, sta, ob, orr, os, cl, nI ln, dg, ff, sz, inp, mm, K, Xs, Ys, Zs, bk, bp, bs, be, co, so, rg, tg, mk, ct, ev) x := by
  obtain ⟨b1, b2, b3, b4, -⟩ := hb
  by_cases hx : x < 0
  · exact br_t hx (h0 fun ⟨j, hj, e⟩ => by rw [e] at hx; exact absurd hx (nI_pos (by omega)))
  · refine br_f hx ?_
    rw [hsz.1]
    obtain ⟨j, hj, rfl⟩ := nI_of hx
    exact pk_le (pv + sv) j (fun z => h0 fun ⟨i, hi, e⟩ => by have := (nI_eq (by omega) (by omega)).mp e; omega) (fun z => h1 ⟨j, z, rfl⟩)
theorem cy_isVar {post : Int32 → Prop} {x : Int32} (hb : cm_Bd pv sv pc sc) (h1 : cm_V pv sv x → post 1) (h0 : ¬ cm_V pv sv x → post 0) : wpY_variable post (nI pv, nI sv, nI pc, nI sc, nI c, sta, ff, nI ln, K, Xs, Ys, Zs, inp, mm, ch, lf, tr) x := by
  obtain ⟨b1, b2, b3, b4, -⟩ := hb
  by_cases hx : x < 0
  · exact br_t hx (h0 fun ⟨j, hj, e⟩ => by rw [e] at hx; exact absurd hx (nI_pos (by omega)))
  · refine br_f hx ?_
    rw [nI_add]
    obtain ⟨j, hj, rfl⟩ := nI_of hx
    exact pk_le (pv + sv) j (fun z => h0 fun ⟨i, hi, e⟩ => by have := (nI_eq (by omega) (by omega)).mp e; omega) (fun z => h1 ⟨j, z, rfl⟩)
theorem cx_isArr {post : Int32 → Prop} {x : Int32} (h1 : x = 1 ∨ x = 2 → post 1) (h0 : ¬ (x = 1 ∨ x = 2) → post 0) : wpX_isArray post (o1, o2, o3, o4, o5, o6, nI pv, nI c, sta, ob, orr, os, cl, nI ln, dg, ff, sz, inp, mm, K, Xs, Ys, Zs, bk, bp, bs, be, co, so, rg, tg, mk, ct, ev) x := by
  by_cases a : x = 1
  · exact br_t a (h1 (Or.inl a))
  · by_cases b : x = 2
    · exact br_f a (br_t b (h1 (Or.inr b)))
    · exact br_f a (br_f b (h0 fun z => z.elim a b))
theorem cx_ov {post : Int32 → Prop} {kd x y z : Int32} (hb : cm_Bd pv sv pc sc) (hsz : cm_Sz pv sv pc sc sz) (hk : ∃ t, t ≤ 14 ∧ kd = nI t) (h1 : cm_Ok pv sv kd x y z → post 1) (h0 : ¬ cm_Ok pv sv kd x y z → post 0) : wpX_operandsValid post (o1, o2, o3, o4, o5, o6, nI pv, nI c, sta, ob, orr, os, cl, nI ln, dg, ff, sz, inp, mm, K, Xs, Ys, Zs, bk, bp, bs, be, co, so, rg, tg, mk, ct, ev) kd x y z := by
  by_cases k12 : kd = 12
  · subst k12
    exact br_t rfl (h1 ⟨fun _ h => absurd rfl h, fun h => absurd h (by decide), fun h => absurd h (by decide), fun h => absurd h (by decide), fun h => absurd h (by decide)⟩)
  · refine br_f k12 ?_
    by_cases k14 : kd = 14
    · subst k14
      exact br_t rfl (h1 ⟨fun _ _ h => absurd rfl h, fun h => absurd h (by decide), fun h => absurd h (by decide), fun h => absurd h (by decide), fun h => absurd h (by decide)⟩)
    · refine br_f k14 ?_
      by_cases k10 : kd = 10
      · subst k10
        refine br_t rfl (cx_isArr (fun a => br_f (by decide) ?_) (fun a => br_t rfl (h0 fun ok => a (ok.2.1 rfl))))
        refine cx_isVar hb hsz (fun b => br_f (by decide) ?_) (fun b => br_t rfl (h0 fun ok => b (ok.2.2.2.1 (by decide) (by decide) (by decide))))
        refine cx_isVar hb hsz (fun d => br_f (by decide) ?_) (fun d => br_t rfl (h0 fun ok => d (ok.2.2.2.2 (by decide) (by decide))))
        exact h1 ⟨fun h => absurd rfl h, fun _ => a, fun h => absurd h (by decide), fun _ _ _ => b, fun _ _ => d⟩
      · refine br_f k10 (cx_isVar hb hsz (fun a => br_f (by decide) ?_) (fun a => br_t rfl (h0 fun ok => a (ok.1 k10 k12 k14))))
        by_cases k0 : kd = 0
        · subst k0
          exact br_t rfl (h1 ⟨fun _ _ _ => a, fun h => absurd h (by decide), fun h => absurd h (by decide), fun _ h => absurd rfl h, fun _ h => absurd rfl h⟩)
        · refine br_f k0 ?_
          by_cases k11 : kd = 11
          · subst k11
            exact br_t rfl (h1 ⟨fun _ _ _ => a, fun h => absurd h (by decide), fun h => absurd h (by decide), fun h => absurd h (by decide), fun h => absurd h (by decide)⟩)
          · refine br_f k11 ?_
            by_cases k13 : kd = 13
            · subst k13
              exact br_t rfl (h1 ⟨fun _ _ _ => a, fun h => absurd h (by decide), fun h => absurd h (by decide), fun h => absurd h (by decide), fun h => absurd h (by decide)⟩)
            · refine br_f k13 ?_
              have hlt := cm_kd_11 hk k11 k12 k13 k14
              by_cases k9 : kd = 9
              · refine br_t k9 (cx_isArr (fun b => br_f (by decide) ?_) (fun b => br_t rfl (h0 fun ok => b (ok.2.2.1 k9))))
                refine cx_isVar hb hsz (fun d => br_f (by decide) ?_) (fun d => br_t rfl (h0 fun ok => d (ok.2.2.2.2 hlt k0)))
                exact h1 ⟨fun _ _ _ => a, fun h => absurd h k10, fun _ => b, fun _ _ h => absurd k9 h, fun _ _ => d⟩
              · refine br_f k9 (cx_isVar hb hsz (fun b => br_f (by decide) ?_) (fun b => br_t rfl (h0 fun ok => b (ok.2.2.2.1 hlt k0 k9))))
                refine cx_isVar hb hsz (fun d => br_f (by decide) ?_) (fun d => br_t rfl (h0 fun ok => d (ok.2.2.2.2 hlt k0)))
                exact h1 ⟨fun _ _ _ => a, fun h => absurd h k10, fun h => absurd h k9, fun _ _ _ => b, fun _ _ => d⟩
theorem cx_117 {post : Int32 → SX → Prop} {z : Int32} (hc : c < 24) (h : post (nI c) (o1, o2, o3, o4, o5, o6, nI pv, nI (c + 1), -2, ob, orr, os, cl, nI ln, dg, ff, sz, inp, mm, K, Xs, Ys, upd Zs c z, bk, bp, bs, be, co, so, rg, tg, mk, ct, ev)) : wX_put_117 post (nI c) z (nI c) o1 o2 o3 o4 o5 o6 (nI pv) (nI c) sta ob orr os cl (nI ln) dg ff sz inp mm K Xs Ys Zs bk bp bs be co so rg tg mk ct ev :=
  And.intro (vp_in_nI hc (by decide)) (nm_r (e' := upd Zs c z) (by rw [nI_clamp (by omega)]) (nm_r (nI_1 c) h))
theorem cx_93 {post : Int32 → SX → Prop} {kd yv z : Int32} (hc : c < 24) (h : post (nI c) (o1, o2, o3, o4, o5, o6, nI pv, nI (c + 1), -2, ob, orr, os, cl, nI ln, dg, ff, sz, inp, mm, K, Xs, upd Ys c yv, upd Zs c (cm_pz kd z), bk, bp, bs, be, co, so, rg, tg, mk, ct, ev)) : wX_put_93 post kd z (nI c) yv (nI c) o1 o2 o3 o4 o5 o6 (nI pv) (nI c) sta ob orr os cl (nI ln) dg ff sz inp mm K Xs Ys Zs bk bp bs be co so rg tg mk ct ev := by
  refine And.intro (vp_in_nI hc (by decide)) (nm_r (e' := upd Ys c yv) (by rw [nI_clamp (by omega)]) ?_)
  by_cases a : kd < 1
  · have e : cm_pz kd z = 0 := if_pos (Or.inl a)
    rw [e] at h
    exact br_t a (cx_117 hc h)
  · by_cases b : 10 < kd
    · have e : cm_pz kd z = 0 := if_pos (Or.inr b)
      rw [e] at h
      exact br_f a (br_t b (cx_117 hc h))
    · have e : cm_pz kd z = z := if_neg (fun y => y.elim a b)
      rw [e] at h
      exact br_f a (br_f b (cx_117 hc h))
theorem cx_75 {post : Int32 → SX → Prop} {kd xv y z : Int32} (hc : c < 24) (h : post (nI c) (o1, o2, o3, o4, o5, o6, nI pv, nI (c + 1), -2, ob, orr, os, cl, nI ln, dg, ff, sz, inp, mm, K, upd Xs c xv, upd Ys c (cm_py kd y), upd Zs c (cm_pz kd z), bk, bp, bs, be, co, so, rg, tg, mk, ct, ev)) : wX_put_75 post kd y z (nI c) xv (nI c) o1 o2 o3 o4 o5 o6 (nI pv) (nI c) sta ob orr os cl (nI ln) dg ff sz inp mm K Xs Ys Zs bk bp bs be co so rg tg mk ct ev := by
  refine And.intro (vp_in_nI hc (by decide)) (nm_r (e' := upd Xs c xv) (by rw [nI_clamp (by omega)]) ?_)
  by_cases b : 10 < kd
  · have e : cm_py kd y = 0 := if_pos b
    rw [e] at h
    exact br_t b (cx_93 hc h)
  · have e : cm_py kd y = y := if_neg b
    rw [e] at h
    exact br_f b (cx_93 hc h)
theorem cx_put {post : Int32 → SX → Prop} {kd x y z : Int32} (hb : cm_Bd pv sv pc sc) (hsz : cm_Sz pv sv pc sc sz) (hc24 : c ≤ 24) (hk : ∃ t, t ≤ 14 ∧ kd = nI t) (h0 : ¬ cm_Ok pv sv kd x y z → post (-1) (o1, o2, o3, o4, o5, o6, nI pv, nI c, sta, ob, orr, os, cl, nI ln, dg, ff, sz, inp, mm, K, Xs, Ys, Zs, bk, bp, bs, be, co, so, rg, tg, mk, ct, ev)) (h1 : cm_Ok pv sv kd x y z → 24 ≤ c → post (-2) (o1, o2, o3, o4, o5, o6, nI pv, nI c, sta, ob, orr, os, cl, nI ln, dg, ff, sz, inp, mm, K, Xs, Ys, Zs, bk, bp, bs, be, co, so, rg, tg, mk, ct, ev)) (h2 : cm_Ok pv sv kd x y z → c < 24 → post (nI c) (o1, o2, o3, o4, o5, o6, nI pv, nI (c + 1), -2, ob, orr, os, cl, nI ln, dg, ff, sz, inp, mm, upd K c kd, upd Xs c (cm_px kd x), upd Ys c (cm_py kd y), upd Zs c (cm_pz kd z), bk, bp, bs, be, co, so, rg, tg, mk, ct, ev)) : wpX_put post (o1, o2, o3, o4, o5, o6, nI pv, nI c, sta, ob, orr, os, cl, nI ln, dg, ff, sz, inp, mm, K, Xs, Ys, Zs, bk, bp, bs, be, co, so, rg, tg, mk, ct, ev) kd x y z := by
  have hk0 : ¬ kd < 0 := by obtain ⟨t, ht, rfl⟩ := hk; exact nI_pos (by omega)
  have hk14 : kd ≤ 14 := by obtain ⟨t, ht, rfl⟩ := hk; exact nI_le (b := 14) ht (by decide)
  refine br_f hk0 (br_t hk14 (cx_ov hb hsz hk (fun ok => br_f (by decide) ?_) (fun ok => br_t rfl (h0 ok))))
  refine pk_lt c 24 (fun hc => ?_) (fun hc => h1 ok hc)
  have h2 := h2 ok hc
  refine And.intro (vp_in_nI hc (by decide)) (nm_r (e' := upd K c kd) (by rw [nI_clamp (by omega)]) ?_)
  by_cases k12 : kd = 12
  · have e : cm_px kd x = 0 := if_pos (Or.inl k12)
    rw [e] at h2
    exact br_t k12 (cx_75 hc h2)
  · by_cases k14 : kd = 14
    · have e : cm_px kd x = 0 := if_pos (Or.inr k14)
      rw [e] at h2
      exact br_f k12 (br_t k14 (cx_75 hc h2))
    · have e : cm_px kd x = x := if_neg (fun w => w.elim k12 k14)
      rw [e] at h2
      exact br_f k12 (br_f k14 (cx_75 hc h2))
/-- Y's flags -/
def cm_f5 (kd : Int32) : Int32 := if kd = 12 ∨ kd = 14 then 0 else 1
def cm_f6 (kd : Int32) : Int32 := if 10 < kd then 0 else 1
def cm_f7 (kd : Int32) : Int32 := if kd < 1 ∨ 10 < kd then 0 else 1
theorem cy_160 {post : Int32 → SY → Prop} {kd x y z : Int32} (hc24 : c ≤ 24) (h1 : 24 ≤ c → post (-2) (nI pv, nI sv, nI pc, nI sc, nI c, sta, ff, nI ln, K, Xs, Ys, Zs, inp, mm, ch, lf, tr)) (h2 : c < 24 → post (nI c) (nI pv, nI sv, nI pc, nI sc, nI (c + 1), -2, ff, nI ln, upd K c kd, upd Xs c (cm_px kd x), upd Ys c (cm_py kd y), upd Zs c (cm_pz kd z), inp, mm, ch, lf, tr)) : wY_put_160 post kd x y z (cm_f5 kd) (cm_f6 kd) (cm_f7 kd) (nI pv) (nI sv) (nI pc) (nI sc) (nI c) sta ff (nI ln) K Xs Ys Zs inp mm ch lf tr := by
  refine pk_lt c 24 (fun hc => ?_) (fun hc => h1 hc)
  have h2 := h2 hc
  have hin : vp_in (nI c) 24 := vp_in_nI hc (by decide)
  have hcc : (nI c).toNatClampNeg = c := nI_clamp (by omega)
  have k239 : ∀ {K Xs Ys : Nat → Int32} (zv : Int32), post (nI c) (nI pv, nI sv, nI pc, nI sc, nI (c + 1), -2, ff, nI ln, K, Xs, Ys, upd Zs c zv, inp, mm, ch, lf, tr) → wY_put_239 post zv (nI c) (nI pv) (nI sv) (nI pc) (nI sc) (nI c) sta ff (nI ln) K Xs Ys Zs inp mm ch lf tr := by
    intro K Xs Ys zv h
    refine And.intro hin (nm_r (e' := upd Zs c zv) (by rw [hcc]) (nm_r (nI_1 c) ?_))
    rw [nI_pred]
    exact h
  have k219 : ∀ {K Xs : Nat → Int32} (yv : Int32), post (nI c) (nI pv, nI sv, nI pc, nI sc, nI (c + 1), -2, ff, nI ln, K, Xs, upd Ys c yv, upd Zs c (cm_pz kd z), inp, mm, ch, lf, tr) → wY_put_219 post z (cm_f7 kd) yv (nI c) (nI pv) (nI sv) (nI pc) (nI sc) (nI c) sta ff (nI ln) K Xs Ys Zs inp mm ch lf tr := by
    intro K Xs yv h
    refine And.intro hin (nm_r (e' := upd Ys c yv) (by rw [hcc]) ?_)
    by_cases a : kd < 1 ∨ 10 < kd
    · have e : cm_pz kd z = 0 := if_pos a
      rw [e] at h
      exact br_t (if_pos a) (k239 0 h)
    · have e : cm_pz kd z = z := if_neg a
      have e7 : cm_f7 kd = 1 := if_neg a
      rw [e] at h
      exact br_f (by rw [e7]; decide) (k239 z h)
  have k200 : ∀ {K : Nat → Int32} (xv : Int32), post (nI c) (nI pv, nI sv, nI pc, nI sc, nI (c + 1), -2, ff, nI ln, K, upd Xs c xv, upd Ys c (cm_py kd y), upd Zs c (cm_pz kd z), inp, mm, ch, lf, tr) → wY_put_200 post y z (cm_f6 kd) (cm_f7 kd) xv (nI c) (nI pv) (nI sv) (nI pc) (nI sc) (nI c) sta ff (nI ln) K Xs Ys Zs inp mm ch lf tr := by
    intro K xv h
    refine And.intro hin (nm_r (e' := upd Xs c xv) (by rw [hcc]) ?_)
    by_cases a : 10 < kd
    · have e : cm_py kd y = 0 := if_pos a
      rw [e] at h
      exact br_t (if_pos a) (k219 0 h)
    · have e : cm_py kd y = y := if_neg a
      have e6 : cm_f6 kd = 1 := if_neg a
      rw [e] at h
      exact br_f (by rw [e6]; decide) (k219 y h)
  refine And.intro hin (nm_r (e' := upd K c kd) (by rw [hcc]) ?_)
  by_cases a : kd = 12 ∨ kd = 14
  · have e : cm_px kd x = 0 := if_pos a
    rw [e] at h2
    exact br_t (if_pos a) (k200 0 h2)
  · have e : cm_px kd x = x := if_neg a
    have e5 : cm_f5 kd = 1 := if_neg a
    rw [e] at h2
    exact br_f (by rw [e5]; decide) (k200 x h2)
theorem cy_60 {post : Int32 → SY → Prop} {kd x y z : Int32} (hb : cm_Bd pv sv pc sc) (hk : ∃ t, t ≤ 14 ∧ kd = nI t) (h0 : ¬ cm_Ok pv sv kd x y z → post (-1) (nI pv, nI sv, nI pc, nI sc, nI c, sta, ff, nI ln, K, Xs, Ys, Zs, inp, mm, ch, lf, tr)) (h2 : cm_Ok pv sv kd x y z → wY_put_160 post kd x y z (cm_f5 kd) (cm_f6 kd) (cm_f7 kd) (nI pv) (nI sv) (nI pc) (nI sc) (nI c) sta ff (nI ln) K Xs Ys Zs inp mm ch lf tr) : wY_put_60 post kd x y z (cm_f5 kd) (cm_f6 kd) (cm_f7 kd) (nI pv) (nI sv) (nI pc) (nI sc) (nI c) sta ff (nI ln) K Xs Ys Zs inp mm ch lf tr := by
  obtain ⟨kl, k1⟩ := cm_kd_lt hk
  have k144 : (kd ≠ 10 → kd ≠ 12 → kd ≠ 14 → cm_V pv sv x) → (kd = 10 → x = 1 ∨ x = 2) → (kd = 9 → y = 1 ∨ y = 2) → (kd < 11 → kd ≠ 0 → kd ≠ 9 → cm_V pv sv y) → wY_put_144 post kd x y z (cm_f5 kd) (cm_f6 kd) (cm_f7 kd) (nI pv) (nI sv) (nI pc) (nI sc) (nI c) sta ff (nI ln) K Xs Ys Zs inp mm ch lf tr := by
    intro a1 a2 a3 a4
    by_cases a : kd < 1 ∨ 10 < kd
    · refine br_t (if_pos a) (h2 ⟨a1, a2, a3, a4, fun p q => ?_⟩)
      rcases a with a | a
      · exact absurd (k1.mp a) q
      · exact absurd a (kl.mp p)
    · have e7 : cm_f7 kd = 1 := if_neg a
      refine br_f (by rw [e7]; decide) (cy_isVar hb (fun v => br_f (by decide) (h2 ⟨a1, a2, a3, a4, fun _ _ => v⟩)) (fun v => br_t rfl (h0 fun ok => v (ok.2.2.2.2 (kl.mpr fun w => a (Or.inr w)) (fun w => a (Or.inl (k1.mpr w)))))))
  have k119 : (kd ≠ 10 → kd ≠ 12 → kd ≠ 14 → cm_V pv sv x) → (kd = 10 → x = 1 ∨ x = 2) → (kd = 9 → y = 1 ∨ y = 2) → wY_put_119 post kd x y z (cm_f5 kd) (cm_f6 kd) (cm_f7 kd) (nI pv) (nI sv) (nI pc) (nI sc) (nI c) sta ff (nI ln) K Xs Ys Zs inp mm ch lf tr := by
    intro a1 a2 a3
    by_cases a : 10 < kd
    · exact br_t (if_pos a) (k144 a1 a2 a3 (fun p => absurd a (kl.mp p)))
    · have e6 : cm_f6 kd = 1 := if_neg a
      refine br_f (by rw [e6]; decide) ?_
      by_cases k0 : kd = 0
      · exact br_t k0 (k144 a1 a2 a3 (fun _ p => absurd k0 p))
      · refine br_f k0 ?_
        by_cases k9 : kd = 9
        · exact br_t k9 (k144 a1 a2 a3 (fun _ _ p => absurd k9 p))
        · exact br_f k9 (cy_isVar hb (fun v => br_f (by decide) (k144 a1 a2 a3 (fun _ _ _ => v))) (fun v => br_t rfl (h0 fun ok => v (ok.2.2.2.1 (kl.mpr a) k0 k9))))
  have k101 : (kd ≠ 10 → kd ≠ 12 → kd ≠ 14 → cm_V pv sv x) → (kd = 10 → x = 1 ∨ x = 2) → wY_put_101 post kd x y z (cm_f5 kd) (cm_f6 kd) (cm_f7 kd) (nI pv) (nI sv) (nI pc) (nI sc) (nI c) sta ff (nI ln) K Xs Ys Zs inp mm ch lf tr := by
    intro a1 a2
    by_cases k9 : kd = 9
    · refine br_t k9 ?_
      by_cases y1 : y = 1
      · exact br_t y1 (k119 a1 a2 (fun _ => Or.inl y1))
      · by_cases y2 : y = 2
        · exact br_f y1 (br_t y2 (k119 a1 a2 (fun _ => Or.inr y2)))
        · exact br_f y1 (br_f y2 (h0 fun ok => (ok.2.2.1 k9).elim y1 y2))
    · exact br_f k9 (k119 a1 a2 (fun p => absurd p k9))
  have k83 : (kd ≠ 10 → kd ≠ 12 → kd ≠ 14 → cm_V pv sv x) → wY_put_83 post kd x y z (cm_f5 kd) (cm_f6 kd) (cm_f7 kd) (nI pv) (nI sv) (nI pc) (nI sc) (nI c) sta ff (nI ln) K Xs Ys Zs inp mm ch lf tr := by
    intro a1
    by_cases k10 : kd = 10
    · refine br_t k10 ?_
      by_cases y1 : x = 1
      · exact br_t y1 (k101 a1 (fun _ => Or.inl y1))
      · by_cases y2 : x = 2
        · exact br_f y1 (br_t y2 (k101 a1 (fun _ => Or.inr y2)))
        · exact br_f y1 (br_f y2 (h0 fun ok => (ok.2.1 k10).elim y1 y2))
    · exact br_f k10 (k101 a1 (fun p => absurd p k10))
  by_cases a : kd = 12 ∨ kd = 14
  · exact br_t (if_pos a) (k83 fun _ p q => a.elim (fun w => absurd w p) (fun w => absurd w q))
  · have e5 : cm_f5 kd = 1 := if_neg a
    refine br_f (by rw [e5]; decide) ?_
    by_cases k10 : kd = 10
    · exact br_t k10 (k83 fun p => absurd k10 p)
    · exact br_f k10 (cy_isVar hb (fun v => br_f (by decide) (k83 fun _ _ _ => v)) (fun v => br_t rfl (h0 fun ok => v (ok.1 k10 (fun w => a (Or.inl w)) (fun w => a (Or.inr w))))))
theorem cy_put {post : Int32 → SY → Prop} {kd x y z : Int32} (hb : cm_Bd pv sv pc sc) (hc24 : c ≤ 24) (hk : ∃ t, t ≤ 14 ∧ kd = nI t) (h0 : ¬ cm_Ok pv sv kd x y z → post (-1) (nI pv, nI sv, nI pc, nI sc, nI c, sta, ff, nI ln, K, Xs, Ys, Zs, inp, mm, ch, lf, tr)) (h1 : cm_Ok pv sv kd x y z → 24 ≤ c → post (-2) (nI pv, nI sv, nI pc, nI sc, nI c, sta, ff, nI ln, K, Xs, Ys, Zs, inp, mm, ch, lf, tr)) (h2 : cm_Ok pv sv kd x y z → c < 24 → post (nI c) (nI pv, nI sv, nI pc, nI sc, nI (c + 1), -2, ff, nI ln, upd K c kd, upd Xs c (cm_px kd x), upd Ys c (cm_py kd y), upd Zs c (cm_pz kd z), inp, mm, ch, lf, tr)) : wpY_put post (nI pv, nI sv, nI pc, nI sc, nI c, sta, ff, nI ln, K, Xs, Ys, Zs, inp, mm, ch, lf, tr) kd x y z := by
  have hk0 : ¬ kd < 0 := by obtain ⟨t, ht, rfl⟩ := hk; exact nI_pos (by omega)
  have hk14 : kd ≤ 14 := by obtain ⟨t, ht, rfl⟩ := hk; exact nI_le (b := 14) ht (by decide)
  have k60 := cy_60 (sta := sta) (ff := ff) (pv := pv) (sv := sv) (pc := pc) (sc := sc) (c := c) (ln := ln) (inp := inp) (mm := mm) (K := K) (Xs := Xs) (Ys := Ys) (Zs := Zs) (ch := ch) (lf := lf) (tr := tr) (post := post) (kd := kd) (x := x) (y := y) (z := z) hb hk h0 (fun ok => cy_160 hc24 (h1 ok) (h2 ok))
  have k42 : wY_put_42 post kd x y z (cm_f5 kd) (cm_f6 kd) (nI pv) (nI sv) (nI pc) (nI sc) (nI c) sta ff (nI ln) K Xs Ys Zs inp mm ch lf tr := by
    by_cases a : kd < 1
    · have e : cm_f7 kd = 0 := if_pos (Or.inl a)
      rw [e] at k60
      exact br_t a k60
    · by_cases b : 10 < kd
      · have e : cm_f7 kd = 0 := if_pos (Or.inr b)
        rw [e] at k60
        exact br_f a (br_t b k60)
      · have e : cm_f7 kd = 1 := if_neg (fun w => w.elim a b)
        rw [e] at k60
        exact br_f a (br_f b k60)
  have k29 : wY_put_29 post kd x y z (cm_f5 kd) (nI pv) (nI sv) (nI pc) (nI sc) (nI c) sta ff (nI ln) K Xs Ys Zs inp mm ch lf tr := by
    by_cases b : 10 < kd
    · have e : cm_f6 kd = 0 := if_pos b
      rw [e] at k42
      exact br_t b k42
    · have e : cm_f6 kd = 1 := if_neg b
      rw [e] at k42
      exact br_f b k42
  refine br_f hk0 (br_t hk14 ?_)
  by_cases k12 : kd = 12
  · have e : cm_f5 kd = 0 := if_pos (Or.inl k12)
    rw [e] at k29
    exact br_t k12 k29
  · by_cases k14 : kd = 14
    · have e : cm_f5 kd = 0 := if_pos (Or.inr k14)
      rw [e] at k29
      exact br_f k12 (br_t k14 k29)
    · have e : cm_f5 kd = 1 := if_neg (fun w => w.elim k12 k14)
      rw [e] at k29
      exact br_f k12 (br_f k14 k29)
end
/-- the new statement is a valid one, the old ones stay -/
theorem cm_Vd_put {pv sv c : Nat} {K Xs Ys Zs : Nat → Int32} {kd x y z : Int32} (hk : ∃ t, t ≤ 14 ∧ kd = nI t) (ok : cm_Ok pv sv kd x y z) (hv : ∀ i, i < c → cm_Vd pv sv K Xs Ys Zs i) : ∀ i, i < c + 1 → cm_Vd pv sv (upd K c kd) (upd Xs c (cm_px kd x)) (upd Ys c (cm_py kd y)) (upd Zs c (cm_pz kd z)) i := by
  intro i hi
  by_cases e : i = c
  · subst e
    unfold cm_Vd
    rw [pk_us, pk_us, pk_us, pk_us]
    obtain ⟨kl, k1⟩ := cm_kd_lt hk
    refine ⟨hk, fun a b d => ?_, fun a => ?_, fun a => ?_, fun a b d => ?_, fun a b => ?_⟩
    · have : cm_px kd x = x := if_neg (fun w => w.elim b d)
      rw [this]; exact ok.1 a b d
    · have : cm_px kd x = x := if_neg (by rw [a]; decide)
      rw [this]; exact ok.2.1 a
    · have : cm_py kd y = y := if_neg (by rw [a]; decide)
      rw [this]; exact ok.2.2.1 a
    · have : cm_py kd y = y := if_neg (kl.mp a)
      rw [this]; exact ok.2.2.2.1 a b d
    · have : cm_pz kd z = z := if_neg (fun w => w.elim (fun w => b (k1.mp w)) (fun w => kl.mp a w))
      rw [this]; exact ok.2.2.2.2 a b
  · have h := hv i (by omega)
    unfold cm_Vd at h ⊢
    rw [pk_un e, pk_un e, pk_un e, pk_un e]
    exact h
end
section
/-- what holds between two turns -/
def cm_F (pv sv pc sc c ln : Nat) (sta cl dg : Int32) (sz K Xs Ys Zs co so rg tg ev tr : Nat → Int32) : Prop :=
  cm_Bd pv sv pc sc ∧ cm_Sz pv sv pc sc sz ∧ c ≤ 24 ∧ (∀ i, i < c → cm_Vd pv sv K Xs Ys Zs i) ∧ ln ≤ 4096 ∧ cm_Tr ln dg ev tr ∧ (sta = -1 → cm_Good K Xs (nI pv) cl co so rg tg c)
/-- the relation -/
def i_Rel (_ : Nat) (u : SX) (v : SY) : Prop := ∃ (o1 o2 o3 o4 o5 o6 sta ob orr os cl dg ff : Int32) (pv sv pc sc c ln : Nat) (sz inp mm K Xs Ys Zs bk bp bs be co so rg tg mk ct ev ch lf tr : Nat → Int32), u = (o1, o2, o3, o4, o5, o6, nI pv, nI c, sta, ob, orr, os, cl, nI ln, dg, ff, sz, inp, mm, K, Xs, Ys, Zs, bk, bp, bs, be, co, so, rg, tg, mk, ct, ev) ∧ v = (nI pv, nI sv, nI pc, nI sc, nI c, sta, ff, nI ln, K, Xs, Ys, Zs, inp, mm, ch, lf, tr) ∧ cm_F pv sv pc sc c ln sta cl dg sz K Xs Ys Zs co so rg tg ev tr
theorem i_up {k : Nat} {u : SX} {v : SY} (h : i_Rel k u v) : i_Rel (k + 5) u v := h
section
variable {o1 o2 o3 o4 o5 o6 sta ob orr os cl dg ff : Int32} {pv sv pc sc c ln : Nat} {sz inp mm K Xs Ys Zs bk bp bs be co so rg tg mk ct ev ch lf tr : Nat → Int32}
theorem cm_mk {k : Nat} (h : cm_F pv sv pc sc c ln sta cl dg sz K Xs Ys Zs co so rg tg ev tr) : i_Rel k (o1, o2, o3, o4, o5, o6, nI pv, nI c, sta, ob, orr, os, cl, nI ln, dg, ff, sz, inp, mm, K, Xs, Ys, Zs, bk, bp, bs, be, co, so, rg, tg, mk, ct, ev) (nI pv, nI sv, nI pc, nI sc, nI c, sta, ff, nI ln, K, Xs, Ys, Zs, inp, mm, ch, lf, tr) := ⟨o1, o2, o3, o4, o5, o6, sta, ob, orr, os, cl, dg, ff, pv, sv, pc, sc, c, ln, sz, inp, mm, K, Xs, Ys, Zs, bk, bp, bs, be, co, so, rg, tg, mk, ct, ev, ch, lf, tr, rfl, rfl, h⟩
theorem cm_ix {k : Nat} {u : SX} {v : SY} {P : SX → SY → Prop} (I : i_Rel k u v) (h : ∀ (o1 o2 o3 o4 o5 o6 sta ob orr os cl dg ff : Int32) (pv sv pc sc c ln : Nat) (sz inp mm K Xs Ys Zs bk bp bs be co so rg tg mk ct ev ch lf tr : Nat → Int32), cm_F pv sv pc sc c ln sta cl dg sz K Xs Ys Zs co so rg tg ev tr → P (o1, o2, o3, o4, o5, o6, nI pv, nI c, sta, ob, orr, os, cl, nI ln, dg, ff, sz, inp, mm, K, Xs, Ys, Zs, bk, bp, bs, be, co, so, rg, tg, mk, ct, ev) (nI pv, nI sv, nI pc, nI sc, nI c, sta, ff, nI ln, K, Xs, Ys, Zs, inp, mm, ch, lf, tr)) : P u v :=
  I.elim fun o1 I => I.elim fun o2 I => I.elim fun o3 I => I.elim fun o4 I => I.elim fun o5 I => I.elim fun o6 I => I.elim fun sta I => I.elim fun ob I => I.elim fun orr I => I.elim fun os I => I.elim fun cl I => I.elim fun dg I => I.elim fun ff I => I.elim fun pv I => I.elim fun sv I => I.elim fun pc I => I.elim fun sc I => I.elim fun c I => I.elim fun ln I => I.elim fun sz I => I.elim fun inp I => I.elim fun mm I => I.elim fun K I => I.elim fun Xs I => I.elim fun Ys I => I.elim fun Zs I => I.elim fun bk I => I.elim fun bp I => I.elim fun bs I => I.elim fun be I => I.elim fun co I => I.elim fun so I => I.elim fun rg I => I.elim fun tg I => I.elim fun mk I => I.elim fun ct I => I.elim fun ev I => I.elim fun ch I => I.elim fun lf I => I.elim fun tr I => by
    obtain ⟨e1, e2, e3⟩ := I
    rw [e1, e2]
    exact h o1 o2 o3 o4 o5 o6 sta ob orr os cl dg ff pv sv pc sc c ln sz inp mm K Xs Ys Zs bk bp bs be co so rg tg mk ct ev ch lf tr e3
end
section
variable {o1 o2 o3 o4 o5 o6 sta ob orr os cl dg ff : Int32} {pv sv pc sc c ln : Nat} {sz inp mm K Xs Ys Zs bk bp bs be co so rg tg mk ct ev ch lf tr : Nat → Int32}
theorem cy_digest {post : Int32 → Prop} (hln : ln ≤ 4096) (h : post (cm_dg tr ln)) : ∀ (d i : Nat), i + d = ln → wY_traceDigest_5 post (nI pv) (nI sv) (nI pc) (nI sc) (nI c) sta ff (nI ln) K Xs Ys Zs inp mm ch lf tr (d + 1) (cm_dg tr i) (nI i)
  | 0, i, hi => by
    have e : i = ln := by omega
    subst e
    exact br_t (nI_le (Nat.le_refl _) (by omega)) h
  | d + 1, i, hi => by
    have hc : (nI i).toNatClampNeg = i := nI_clamp (by omega)
    refine br_f (nI_ge (by omega) (by omega)) (And.intro (vp_in_nI (by omega) (by decide)) (nm_r (e' := cm_dg tr (i + 1)) (by rw [hc]; rfl) (nm_r (nI_1 i) ?_)))
    exact cy_digest hln h d (i + 1) (by omega)
theorem cm_clamp (v : Int32) : ∃ n : Nat, 1 ≤ n ∧ n ≤ 8 ∧ (∀ (post : Int32 → Prop) (w1 w2 w3 : Int32), post (nI n) → wpX_clamp post (o1, o2, o3, o4, o5, o6, w1, w2, sta, ob, orr, os, cl, w3, dg, ff, sz, inp, mm, K, Xs, Ys, Zs, bk, bp, bs, be, co, so, rg, tg, mk, ct, ev) v 1 8) ∧ (∀ (post : Int32 → Prop) (w1 w2 w3 w4 w5 w6 : Int32), post (nI n) → wpY_clamp post (w1, w2, w3, w4, w5, sta, ff, w6, K, Xs, Ys, Zs, inp, mm, ch, lf, tr) v) := by
  by_cases h1 : 1 ≤ v
  · by_cases h8 : v ≤ 8
    · have h0 : ¬ v < 0 := Int32.not_lt.mpr (Int32.le_trans (by decide) h1)
      obtain ⟨n, hn, e⟩ := nI_of2 (n := 8) (by decide) h0 h8
      subst e
      have hn1 : 1 ≤ n := (nI_leI (a := 1) (by decide) (by omega)).mp h1
      exact ⟨n, hn1, hn, fun post _ _ _ h => br_t h1 (br_t h8 h), fun post _ _ _ _ _ _ h => br_t h1 (br_t h8 h)⟩
    · exact ⟨8, by omega, by omega, fun post _ _ _ h => br_t h1 (br_f h8 h), fun post _ _ _ _ _ _ h => br_t h1 (br_f h8 h)⟩
  · exact ⟨1, by omega, by omega, fun post _ _ _ h => br_f h1 h, fun post _ _ _ _ _ _ h => br_f h1 h⟩
end
theorem i_vc0 (k0 : Int32) (k1 : Int32) (k2 : Int32) (k3 : Int32) : wpX_init (fun u => wpY_init (fun v => i_Rel 4 u v) k0 k1 k2 k3) k0 k1 k2 k3 := by
  obtain ⟨pv, a1, a2, hX0, hY0⟩ := cm_clamp (o1 := 11) (o2 := 12) (o3 := 13) (o4 := 14) (o5 := 15) (o6 := 16) (sta := -2) (ob := 0) (orr := 0) (os := 0) (cl := 0) (dg := 7) (ff := -1) (sz := fun _ => 0) (inp := fun _ => 0) (mm := fun _ => 0) (K := fun _ => 0) (Xs := fun _ => 0) (Ys := fun _ => 0) (Zs := fun _ => 0) (bk := fun _ => 0) (bp := fun _ => 0) (bs := fun _ => 0) (be := fun _ => 0) (co := fun _ => 0) (so := fun _ => 0) (rg := fun _ => 0) (tg := fun _ => 0) (mk := fun _ => 0) (ct := fun _ => 0) (ev := fun _ => 0) (ch := fun _ => 0) (lf := fun _ => 0) (tr := fun _ => 0) k0
  obtain ⟨sv, b1, b2, hX1, hY1⟩ := cm_clamp (o1 := 11) (o2 := 12) (o3 := 13) (o4 := 14) (o5 := 15) (o6 := 16) (sta := -2) (ob := 0) (orr := 0) (os := 0) (cl := 0) (dg := 7) (ff := -1) (sz := fun _ => 0) (inp := fun _ => 0) (mm := fun _ => 0) (K := fun _ => 0) (Xs := fun _ => 0) (Ys := fun _ => 0) (Zs := fun _ => 0) (bk := fun _ => 0) (bp := fun _ => 0) (bs := fun _ => 0) (be := fun _ => 0) (co := fun _ => 0) (so := fun _ => 0) (rg := fun _ => 0) (tg := fun _ => 0) (mk := fun _ => 0) (ct := fun _ => 0) (ev := fun _ => 0) (ch := fun _ => 0) (lf := fun _ => 0) (tr := fun _ => 0) k1
  obtain ⟨pc, c1, c2, hX2, hY2⟩ := cm_clamp (o1 := 11) (o2 := 12) (o3 := 13) (o4 := 14) (o5 := 15) (o6 := 16) (sta := -2) (ob := 0) (orr := 0) (os := 0) (cl := 0) (dg := 7) (ff := -1) (sz := upd (fun _ => 0) 0 (nI pv + nI sv)) (inp := fun _ => 0) (mm := fun _ => 0) (K := fun _ => 0) (Xs := fun _ => 0) (Ys := fun _ => 0) (Zs := fun _ => 0) (bk := fun _ => 0) (bp := fun _ => 0) (bs := fun _ => 0) (be := fun _ => 0) (co := fun _ => 0) (so := fun _ => 0) (rg := fun _ => 0) (tg := fun _ => 0) (mk := fun _ => 0) (ct := fun _ => 0) (ev := fun _ => 0) (ch := fun _ => 0) (lf := fun _ => 0) (tr := fun _ => 0) k2
  obtain ⟨sc, d1, d2, hX3, hY3⟩ := cm_clamp (o1 := 11) (o2 := 12) (o3 := 13) (o4 := 14) (o5 := 15) (o6 := 16) (sta := -2) (ob := 0) (orr := 0) (os := 0) (cl := 0) (dg := 7) (ff := -1) (sz := upd (upd (fun _ => 0) 0 (nI pv + nI sv)) 1 (nI pc)) (inp := fun _ => 0) (mm := fun _ => 0) (K := fun _ => 0) (Xs := fun _ => 0) (Ys := fun _ => 0) (Zs := fun _ => 0) (bk := fun _ => 0) (bp := fun _ => 0) (bs := fun _ => 0) (be := fun _ => 0) (co := fun _ => 0) (so := fun _ => 0) (rg := fun _ => 0) (tg := fun _ => 0) (mk := fun _ => 0) (ct := fun _ => 0) (ev := fun _ => 0) (ch := fun _ => 0) (lf := fun _ => 0) (tr := fun _ => 0) k3
  have fin : i_Rel 4 (11, 12, 13, 14, 15, 16, nI pv, nI 0, -2, 0, 0, 0, 0, nI 0, 7, -1, upd (upd (upd (fun _ => 0) 0 (nI pv + nI sv)) 1 (nI pc)) 2 (nI sc), (fun _ => 0), (fun _ => 0), (fun _ => 0), (fun _ => 0), (fun _ => 0), (fun _ => 0), (fun _ => 0), (fun _ => 0), (fun _ => 0), (fun _ => 0), (fun _ => 0), (fun _ => 0), (fun _ => 0), (fun _ => 0), (fun _ => 0), (fun _ => 0), (fun _ => 0)) (nI pv, nI sv, nI pc, nI sc, nI 0, -2, -1, nI 0, (fun _ => 0), (fun _ => 0), (fun _ => 0), (fun _ => 0), (fun _ => 0), (fun _ => 0), (fun _ => 0), (fun _ => 0), (fun _ => 0)) :=
    cm_mk ⟨⟨a1, a2, b1, b2, c1, c2, d1, d2⟩, ⟨by rw [pk_un (by decide), pk_un (by decide), pk_us, nI_add], by rw [pk_un (by decide), pk_us], pk_us⟩, by omega, fun i hi => absurd hi (Nat.not_lt_zero _), by omega, ⟨rfl, fun i hi => absurd hi (Nat.not_lt_zero _)⟩, fun z => absurd z (by decide)⟩
  unfold wpX_init
  refine hX0 _ 0 0 0 ?_
  refine hX1 _ (nI pv) 0 0 ?_
  refine nm_e ?_
  refine hX2 _ (nI pv) 0 0 ?_
  refine nm_e ?_
  refine hX3 _ (nI pv) 0 0 ?_
  refine nm_e ?_
  unfold wpY_init
  refine hY0 _ 0 0 0 0 0 0 ?_
  refine hY1 _ (nI pv) 0 0 0 0 0 ?_
  refine hY2 _ (nI pv) (nI sv) 0 0 0 0 ?_
  refine hY3 _ (nI pv) (nI sv) (nI pc) 0 0 0 ?_
  exact fin
theorem i_vc_put {k : Nat} {u : SX} {v : SY} (I : i_Rel k u v) (hk : k + 5 ≤ 2564) (v1 : Int32) (v2 : Int32) (v3 : Int32) (v4 : Int32) : wpX_put (fun r u' => wpY_put (fun r' v' => r' = r ∧ i_Rel (k + 5) u' v') v v1 v2 v3 v4) u v1 v2 v3 v4 := by
  refine cm_ix (P := fun u v => wpX_put (fun r u' => wpY_put (fun r' v' => r' = r ∧ i_Rel (k + 5) u' v') v v1 v2 v3 v4) u v1 v2 v3 v4) I ?_
  intro o1 o2 o3 o4 o5 o6 sta ob orr os cl dg ff pv sv pc sc c ln sz inp mm K Xs Ys Zs bk bp bs be co so rg tg mk ct ev ch lf tr hF
  have hF' := hF
  obtain ⟨hb, hsz, hc24, hv, hln, hT, hG⟩ := hF
  by_cases hk : ∃ t, t ≤ 14 ∧ v1 = nI t
  · refine cx_put hb hsz hc24 hk (fun n => ?_) (fun ok h => ?_) (fun ok h => ?_)
    · exact cy_put hb hc24 hk (fun _ => ⟨rfl, cm_mk hF'⟩) (fun ok => absurd ok n) (fun ok => absurd ok n)
    · exact cy_put hb hc24 hk (fun n => absurd ok n) (fun _ _ => ⟨rfl, cm_mk hF'⟩) (fun _ z => absurd z (by omega))
    · exact cy_put hb hc24 hk (fun n => absurd ok n) (fun _ z => absurd z (by omega)) (fun _ _ => ⟨rfl, cm_mk ⟨hb, hsz, h, cm_Vd_put hk ok hv, hln, hT, fun z => absurd z (by decide)⟩⟩)
  · by_cases h0 : v1 < 0
    · exact br_t h0 (br_t h0 ⟨rfl, cm_mk hF'⟩)
    · have h14 : ¬ v1 ≤ 14 := fun z => hk (by
        obtain ⟨t, ht, e⟩ := nI_of2 (n := 14) (by decide) h0 z
        exact ⟨t, ht, e⟩)
      exact br_f h0 (br_f h14 (br_f h0 (br_f h14 ⟨rfl, cm_mk hF'⟩)))
theorem i_vc_field {k : Nat} {u : SX} {v : SY} (I : i_Rel k u v) (hk : k + 5 ≤ 2564) (v1 : Int32) (v2 : Int32) : wpX_field (fun r => wpY_field (fun r' => r' = r ∧ i_Rel (k + 5) u v) v v1 v2) u v1 v2 := by
  refine cm_ix (P := fun u v => wpX_field (fun r => wpY_field (fun r' => r' = r ∧ i_Rel (k + 5) u v) v v1 v2) u v1 v2) I ?_
  intro o1 o2 o3 o4 o5 o6 sta ob orr os cl dg ff pv sv pc sc c ln sz inp mm K Xs Ys Zs bk bp bs be co so rg tg mk ct ev ch lf tr hF
  have hF' := hF
  obtain ⟨hb, hsz, hc24, hv, hln, hT, hG⟩ := hF
  have fin : ∀ r : Int32, r = r ∧ i_Rel (k + 5) (o1, o2, o3, o4, o5, o6, nI pv, nI c, sta, ob, orr, os, cl, nI ln, dg, ff, sz, inp, mm, K, Xs, Ys, Zs, bk, bp, bs, be, co, so, rg, tg, mk, ct, ev) (nI pv, nI sv, nI pc, nI sc, nI c, sta, ff, nI ln, K, Xs, Ys, Zs, inp, mm, ch, lf, tr) := fun r => ⟨rfl, cm_mk hF'⟩
  by_cases h0 : v1 < 0
  · exact br_t h0 (br_t h0 (fin _))
  · obtain ⟨j, hj, rfl⟩ := nI_of h0
    refine br_f h0 ?_
    by_cases hjc : j < c
    · have a1 : nI j < nI c := nI_lt hjc (by omega)
      have a2 : ¬ nI c ≤ nI j := nI_ge hjc (by omega)
      have hin : vp_in (nI j) 24 := vp_in_nI (by omega) (by decide)
      refine br_t a1 ?_
      by_cases p0 : v2 < 0
      · exact br_t p0 (br_f h0 (br_f a2 (br_t p0 (fin _))))
      · refine br_f p0 ?_
        by_cases p3 : 3 < v2
        · exact br_t p3 (br_f h0 (br_f a2 (br_f p0 (br_f (fun z => absurd p3 (Int32.not_lt.mpr z)) (fin _)))))
        · have p3' : v2 ≤ 3 := Int32.not_lt.mp p3
          refine br_f p3 ?_
          obtain ⟨t, ht, rfl⟩ := nI_of2 (n := 3) (by decide) p0 p3'
          have : t = 0 ∨ t = 1 ∨ t = 2 ∨ t = 3 := by omega
          rcases this with rfl | rfl | rfl | rfl
          · exact br_t rfl (And.intro hin (br_f h0 (br_f a2 (br_f p0 (br_t p3' (br_t rfl (And.intro hin (fin _))))))))
          · exact br_f (by decide) (br_t rfl (And.intro hin (br_f h0 (br_f a2 (br_f p0 (br_t p3' (br_f (by decide) (br_t rfl (And.intro hin (fin _))))))))))
          · exact br_f (by decide) (br_f (by decide) (br_t rfl (And.intro hin (br_f h0 (br_f a2 (br_f p0 (br_t p3' (br_f (by decide) (br_f (by decide) (br_t rfl (And.intro hin (fin _))))))))))))
          · exact br_f (by decide) (br_f (by decide) (br_f (by decide) (br_t rfl (And.intro hin (br_f h0 (br_f a2 (br_f p0 (br_t p3' (br_f (by decide) (br_f (by decide) (br_f (by decide) (And.intro hin (fin _)))))))))))))
    · exact br_f (nI_nlt (by omega) hj) (br_f h0 (br_t (nI_le (by omega) hj) (fin _)))
theorem i_vc_clear {k : Nat} {u : SX} {v : SY} (I : i_Rel k u v) (hk : k + 5 ≤ 2564) : wpX_clear (fun u' => wpY_clear (fun v' => i_Rel (k + 5) u' v') v) u := by
  refine cm_ix (P := fun u v => wpX_clear (fun u' => wpY_clear (fun v' => i_Rel (k + 5) u' v') v) u) I ?_
  intro o1 o2 o3 o4 o5 o6 sta ob orr os cl dg ff pv sv pc sc c ln sz inp mm K Xs Ys Zs bk bp bs be co so rg tg mk ct ev ch lf tr hF
  obtain ⟨hb, hsz, hc24, hv, hln, hT, hG⟩ := hF
  exact cm_mk (k := k + 5) (c := 0) ⟨hb, hsz, by omega, fun i hi => absurd hi (Nat.not_lt_zero _), hln, hT, fun z => absurd z (by decide)⟩
theorem i_vc_compile {k : Nat} {u : SX} {v : SY} (I : i_Rel k u v) (hk : k + 5 ≤ 2564) : wpX_compile (fun r u' => wpY_compile (fun r' v' => r' = r ∧ i_Rel (k + 5) u' v') v) u := by
  refine cm_ix (P := fun u v => wpX_compile (fun r u' => wpY_compile (fun r' v' => r' = r ∧ i_Rel (k + 5) u' v') v) u) I ?_
  intro o1 o2 o3 o4 o5 o6 sta ob orr os cl dg ff pv sv pc sc c ln sz inp mm K Xs Ys Zs bk bp bs be co so rg tg mk ct ev ch lf tr hF
  obtain ⟨hb, hsz, hc24, hv, hln, hT, hG⟩ := hF
  obtain ⟨r, sta', ob', orr', os', cl', bk', bp', bs', be', co', so', rg', tg', hG', hX, hY⟩ := cm_compile (o1 := o1) (o2 := o2) (o3 := o3) (o4 := o4) (o5 := o5) (o6 := o6) (sta := sta) (ob := ob) (orr := orr) (os := os) (cl := cl) (dg := dg) (ff := ff) (pv := pv) (c := c) (ln := ln) (sz := sz) (inp := inp) (mm := mm) (K := K) (Xs := Xs) (Ys := Ys) (Zs := Zs) (bk := bk) (bp := bp) (bs := bs) (be := be) (co := co) (so := so) (rg := rg) (tg := tg) (mk := mk) (ct := ct) (ev := ev) (sv := sv) (pc := pc) (sc := sc) (ch := ch) (lf := lf) (tr := tr) hc24 hv
  exact hX _ (hY _ ⟨rfl, cm_mk ⟨hb, hsz, hc24, hv, hln, hT, hG'⟩⟩)
theorem i_vc_errorAt {k : Nat} {u : SX} {v : SY} (I : i_Rel k u v) (hk : k + 5 ≤ 2564) : wpX_errorAt (fun r => wpY_errorAt (fun r' => r' = r ∧ i_Rel (k + 5) u v) v) u := by
  refine cm_ix (P := fun u v => wpX_errorAt (fun r => wpY_errorAt (fun r' => r' = r ∧ i_Rel (k + 5) u v) v) u) I ?_
  intro o1 o2 o3 o4 o5 o6 sta ob orr os cl dg ff pv sv pc sc c ln sz inp mm K Xs Ys Zs bk bp bs be co so rg tg mk ct ev ch lf tr hF
  exact ⟨rfl, cm_mk hF⟩
theorem i_vc_set {k : Nat} {u : SX} {v : SY} (I : i_Rel k u v) (hk : k + 5 ≤ 2564) (v1 : Int32) (v2 : Int32) (v3 : Int32) : wpX_set (fun r u' => wpY_set (fun r' v' => r' = r ∧ i_Rel (k + 5) u' v') v v1 v2 v3) u v1 v2 v3 := by
  refine cm_ix (P := fun u v => wpX_set (fun r u' => wpY_set (fun r' v' => r' = r ∧ i_Rel (k + 5) u' v') v v1 v2 v3) u v1 v2 v3) I ?_
  intro o1 o2 o3 o4 o5 o6 sta ob orr os cl dg ff pv sv pc sc c ln sz inp mm K Xs Ys Zs bk bp bs be co so rg tg mk ct ev ch lf tr hF
  have hF' := hF
  obtain ⟨hb, hsz, hc24, hv, hln, hT, hG⟩ := hF
  obtain ⟨r, hr, hX, hY⟩ := cm_slot (o1 := o1) (o2 := o2) (o3 := o3) (o4 := o4) (o5 := o5) (o6 := o6) (sta := sta) (ob := ob) (orr := orr) (os := os) (cl := cl) (dg := dg) (ff := ff) (pv := pv) (c := c) (ln := ln) (sz := sz) (inp := inp) (mm := mm) (K := K) (Xs := Xs) (Ys := Ys) (Zs := Zs) (bk := bk) (bp := bp) (bs := bs) (be := be) (co := co) (so := so) (rg := rg) (tg := tg) (mk := mk) (ct := ct) (ev := ev) (sv := sv) (pc := pc) (sc := sc) (ch := ch) (lf := lf) (tr := tr) hb hsz v1 v2
  unfold wpX_set
  refine hX _ ?_
  unfold wpY_set
  rcases hr with rfl | ⟨s, hs, rfl⟩
  · refine br_f (by decide) (hY _ (br_f (by decide) ⟨rfl, cm_mk hF'⟩))
  · have hin : vp_in (nI s) 32 := vp_in_nI hs (by decide)
    have hp : (0 : Int32) ≤ nI s := nI_pos' (by omega)
    exact br_t hp (And.intro hin (nm_e (hY _ (br_t hp (And.intro hin (nm_e ⟨rfl, cm_mk hF'⟩))))))
theorem i_vc_input {k : Nat} {u : SX} {v : SY} (I : i_Rel k u v) (hk : k + 5 ≤ 2564) (v1 : Int32) (v2 : Int32) : wpX_input (fun r => wpY_input (fun r' => r' = r ∧ i_Rel (k + 5) u v) v v1 v2) u v1 v2 := by
  refine cm_ix (P := fun u v => wpX_input (fun r => wpY_input (fun r' => r' = r ∧ i_Rel (k + 5) u v) v v1 v2) u v1 v2) I ?_
  intro o1 o2 o3 o4 o5 o6 sta ob orr os cl dg ff pv sv pc sc c ln sz inp mm K Xs Ys Zs bk bp bs be co so rg tg mk ct ev ch lf tr hF
  have hF' := hF
  obtain ⟨hb, hsz, hc24, hv, hln, hT, hG⟩ := hF
  obtain ⟨r, hr, hX, hY⟩ := cm_slot (o1 := o1) (o2 := o2) (o3 := o3) (o4 := o4) (o5 := o5) (o6 := o6) (sta := sta) (ob := ob) (orr := orr) (os := os) (cl := cl) (dg := dg) (ff := ff) (pv := pv) (c := c) (ln := ln) (sz := sz) (inp := inp) (mm := mm) (K := K) (Xs := Xs) (Ys := Ys) (Zs := Zs) (bk := bk) (bp := bp) (bs := bs) (be := be) (co := co) (so := so) (rg := rg) (tg := tg) (mk := mk) (ct := ct) (ev := ev) (sv := sv) (pc := pc) (sc := sc) (ch := ch) (lf := lf) (tr := tr) hb hsz v1 v2
  unfold wpX_input
  refine hX _ ?_
  unfold wpY_input
  rcases hr with rfl | ⟨s, hs, rfl⟩
  · refine br_f (by decide) (hY _ (br_f (by decide) ⟨rfl, cm_mk hF'⟩))
  · have hin : vp_in (nI s) 32 := vp_in_nI hs (by decide)
    have hp : (0 : Int32) ≤ nI s := nI_pos' (by omega)
    exact br_t hp (And.intro hin (hY _ (br_t hp (And.intro hin ⟨rfl, cm_mk hF'⟩))))
theorem i_vc_run {k : Nat} {u : SX} {v : SY} (I : i_Rel k u v) (hk : k + 5 ≤ 2564) : wpX_run (fun r u' => wpY_run (fun r' v' => r' = r ∧ i_Rel (k + 5) u' v') v) u := by
  refine cm_ix (P := fun u v => wpX_run (fun r u' => wpY_run (fun r' v' => r' = r ∧ i_Rel (k + 5) u' v') v) u) I ?_
  intro o1 o2 o3 o4 o5 o6 sta ob orr os cl dg ff pv sv pc sc c ln sz inp mm K Xs Ys Zs bk bp bs be co so rg tg mk ct ev ch lf tr hF
  have hF' := hF
  obtain ⟨hb, hsz, hc24, hv, hln, hT, hG⟩ := hF
  by_cases hs : sta = -1
  · obtain ⟨ln', dg', ff', mm', mk', ct', ev', ch', lf', tr', t1, t2, hX, hY⟩ := cm_run (o1 := o1) (o2 := o2) (o3 := o3) (o4 := o4) (o5 := o5) (o6 := o6) (sta := sta) (ob := ob) (orr := orr) (os := os) (cl := cl) (dg := dg) (ff := ff) (pv := pv) (c := c) (ln := ln) (sz := sz) (inp := inp) (mm := mm) (K := K) (Xs := Xs) (Ys := Ys) (Zs := Zs) (bk := bk) (bp := bp) (bs := bs) (be := be) (co := co) (so := so) (rg := rg) (tg := tg) (mk := mk) (ct := ct) (ev := ev) (sv := sv) (pc := pc) (sc := sc) (ch := ch) (lf := lf) (tr := tr) hb hsz hc24 hv hs (hG hs)
    exact hX _ (hY _ ⟨rfl, cm_mk ⟨hb, hsz, hc24, hv, t2, t1, hG⟩⟩)
  · exact br_f hs (br_f hs ⟨rfl, cm_mk hF'⟩)
theorem i_vc_output {k : Nat} {u : SX} {v : SY} (I : i_Rel k u v) (hk : k + 5 ≤ 2564) (v1 : Int32) (v2 : Int32) : wpX_output (fun r => wpY_output (fun r' => r' = r ∧ i_Rel (k + 5) u v) v v1 v2) u v1 v2 := by
  refine cm_ix (P := fun u v => wpX_output (fun r => wpY_output (fun r' => r' = r ∧ i_Rel (k + 5) u v) v v1 v2) u v1 v2) I ?_
  intro o1 o2 o3 o4 o5 o6 sta ob orr os cl dg ff pv sv pc sc c ln sz inp mm K Xs Ys Zs bk bp bs be co so rg tg mk ct ev ch lf tr hF
  have hF' := hF
  obtain ⟨hb, hsz, hc24, hv, hln, hT, hG⟩ := hF
  obtain ⟨r, hr, hX, hY⟩ := cm_slot (o1 := o1) (o2 := o2) (o3 := o3) (o4 := o4) (o5 := o5) (o6 := o6) (sta := sta) (ob := ob) (orr := orr) (os := os) (cl := cl) (dg := dg) (ff := ff) (pv := pv) (c := c) (ln := ln) (sz := sz) (inp := inp) (mm := mm) (K := K) (Xs := Xs) (Ys := Ys) (Zs := Zs) (bk := bk) (bp := bp) (bs := bs) (be := be) (co := co) (so := so) (rg := rg) (tg := tg) (mk := mk) (ct := ct) (ev := ev) (sv := sv) (pc := pc) (sc := sc) (ch := ch) (lf := lf) (tr := tr) hb hsz v1 v2
  unfold wpX_output
  refine hX _ ?_
  unfold wpY_output
  rcases hr with rfl | ⟨s, hs, rfl⟩
  · refine br_f (by decide) (hY _ (br_f (by decide) ⟨rfl, cm_mk hF'⟩))
  · have hin : vp_in (nI s) 32 := vp_in_nI hs (by decide)
    have hp : (0 : Int32) ≤ nI s := nI_pos' (by omega)
    exact br_t hp (And.intro hin (hY _ (br_t hp (And.intro hin ⟨rfl, cm_mk hF'⟩))))
theorem i_vc_fault {k : Nat} {u : SX} {v : SY} (I : i_Rel k u v) (hk : k + 5 ≤ 2564) : wpX_fault (fun r => wpY_fault (fun r' => r' = r ∧ i_Rel (k + 5) u v) v) u := by
  refine cm_ix (P := fun u v => wpX_fault (fun r => wpY_fault (fun r' => r' = r ∧ i_Rel (k + 5) u v) v) u) I ?_
  intro o1 o2 o3 o4 o5 o6 sta ob orr os cl dg ff pv sv pc sc c ln sz inp mm K Xs Ys Zs bk bp bs be co so rg tg mk ct ev ch lf tr hF
  exact ⟨rfl, cm_mk hF⟩
theorem i_vc_traceLength {k : Nat} {u : SX} {v : SY} (I : i_Rel k u v) (hk : k + 5 ≤ 2564) : wpX_traceLength (fun r => wpY_traceLength (fun r' => r' = r ∧ i_Rel (k + 5) u v) v) u := by
  refine cm_ix (P := fun u v => wpX_traceLength (fun r => wpY_traceLength (fun r' => r' = r ∧ i_Rel (k + 5) u v) v) u) I ?_
  intro o1 o2 o3 o4 o5 o6 sta ob orr os cl dg ff pv sv pc sc c ln sz inp mm K Xs Ys Zs bk bp bs be co so rg tg mk ct ev ch lf tr hF
  exact ⟨rfl, cm_mk hF⟩
theorem i_vc_traceDigest {k : Nat} {u : SX} {v : SY} (I : i_Rel k u v) (hk : k + 5 ≤ 2564) : wpX_traceDigest (fun r => wpY_traceDigest (fun r' => r' = r ∧ i_Rel (k + 5) u v) v) u := by
  refine cm_ix (P := fun u v => wpX_traceDigest (fun r => wpY_traceDigest (fun r' => r' = r ∧ i_Rel (k + 5) u v) v) u) I ?_
  intro o1 o2 o3 o4 o5 o6 sta ob orr os cl dg ff pv sv pc sc c ln sz inp mm K Xs Ys Zs bk bp bs be co so rg tg mk ct ev ch lf tr hF
  have hF' := hF
  obtain ⟨hb, hsz, hc24, hv, hln, hT, hG⟩ := hF
  exact ⟨ln + 1, cy_digest hln ⟨hT.1.symm, cm_mk hF'⟩ ln 0 (by omega)⟩
theorem i_vc_event {k : Nat} {u : SX} {v : SY} (I : i_Rel k u v) (hk : k + 5 ≤ 2564) (v1 : Int32) : wpX_event (fun r => wpY_event (fun r' => r' = r ∧ i_Rel (k + 5) u v) v v1) u v1 := by
  refine cm_ix (P := fun u v => wpX_event (fun r => wpY_event (fun r' => r' = r ∧ i_Rel (k + 5) u v) v v1) u v1) I ?_
  intro o1 o2 o3 o4 o5 o6 sta ob orr os cl dg ff pv sv pc sc c ln sz inp mm K Xs Ys Zs bk bp bs be co so rg tg mk ct ev ch lf tr hF
  have hF' := hF
  obtain ⟨hb, hsz, hc24, hv, hln, hT, hG⟩ := hF
  have fin : ∀ r : Int32, r = r ∧ i_Rel (k + 5) (o1, o2, o3, o4, o5, o6, nI pv, nI c, sta, ob, orr, os, cl, nI ln, dg, ff, sz, inp, mm, K, Xs, Ys, Zs, bk, bp, bs, be, co, so, rg, tg, mk, ct, ev) (nI pv, nI sv, nI pc, nI sc, nI c, sta, ff, nI ln, K, Xs, Ys, Zs, inp, mm, ch, lf, tr) := fun r => ⟨rfl, cm_mk hF'⟩
  by_cases h0 : v1 < 0
  · exact br_t h0 (br_t h0 (fin _))
  · obtain ⟨j, hj, rfl⟩ := nI_of h0
    refine br_f h0 ?_
    by_cases h256 : 256 ≤ j
    · have a : (256 : Int32) ≤ nI j := nI_le (a := 256) h256 hj
      exact br_t a (br_f h0 (br_t a (fin _)))
    · have a : ¬ (256 : Int32) ≤ nI j := nI_ge (b := 256) (by omega) (by decide)
      refine br_f a ?_
      by_cases hl : j < ln
      · have b : nI j < nI ln := nI_lt hl (by omega)
        have hcj : (nI j).toNatClampNeg = j := nI_clamp (by omega)
        refine br_t b (And.intro (vp_in_nI (by omega) (by decide)) (br_f h0 (br_f a (br_t b (And.intro (vp_in_nI (by omega) (by decide)) ?_)))))
        rw [hcj]
        exact ⟨(hT.2 j hl (by omega)).symm, cm_mk hF'⟩
      · have b : ¬ nI j < nI ln := nI_nlt (by omega) hj
        exact br_f b (br_f h0 (br_f a (br_f b (fin _))))
end
