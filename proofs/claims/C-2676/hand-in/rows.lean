section
/-! rows pasted from kit/rows (starting texts) -/
theorem pk_us {f : Nat → Int32} {k : Nat} {x : Int32} : upd f k x k = x := if_pos rfl
theorem pk_un {f : Nat → Int32} {k j : Nat} {x : Int32} (h : j ≠ k) : upd f k x j = f j := if_neg h
theorem pk_sub {a b : Nat} (h : b ≤ a) : nI a - nI b = nI (a - b) := by
  obtain ⟨c, rfl⟩ : ∃ c, a = c + b := ⟨a - b, by omega⟩
  rw [← nI_add, Int32.add_sub_cancel, Nat.add_sub_cancel]
theorem pk_m1 (n : Nat) : nI (n + 1) + (-1) = nI n := by
  rw [← nI_1, Int32.add_assoc, show (1 : Int32) + (-1) = 0 from rfl, Int32.add_zero]
theorem pk_mul (a b : Nat) : nI a * nI b = nI (a * b) := (Int32.ofNat_mul a b).symm
theorem pk_div {a d : Nat} (ha : a < 2 ^ 31) (h0 : 0 < d) (hd : d < 2 ^ 31) : nI a / nI d = nI (a / d) := by
  apply Int32.toInt_inj.mp
  rw [lg_idiv_nonneg (by rw [nI_toInt ha]; omega) (by rw [nI_toInt hd]; omega), nI_toInt ha, nI_toInt hd, nI_toInt (Nat.lt_of_le_of_lt (Nat.div_le_self a d) ha)]
  first | rfl | exact (Int.natCast_ediv _ _).symm
theorem pk_rem {a d : Nat} (ha : a < 2 ^ 31) (h0 : 0 < d) (hd : d < 2 ^ 31) : nI a - nI a / nI d * nI d = nI (a % d) := by
  rw [pk_div ha h0 hd, pk_mul, pk_sub (Nat.div_mul_le_self a d)]
  exact congrArg nI (by have := Nat.div_add_mod' a d; omega)
theorem pk_ix (x : Int32) {n : Nat} (hn : n < 2 ^ 31) : x < 0 ∨ nI n ≤ x ∨ ∃ j : Nat, j < n ∧ x = nI j := by
  by_cases h : x < 0
  · exact Or.inl h
  · obtain ⟨j, hj, rfl⟩ := nI_of h
    by_cases h2 : j < n
    · exact Or.inr (Or.inr ⟨j, h2, rfl⟩)
    · exact Or.inr (Or.inl (nI_le (by omega) hj))
theorem pk_le {x y : Int32} {A B : Prop} (a b : Nat) (f : a ≤ b → A) (g : b < a → B) (hx : x = nI a := by rfl) (hy : y = nI b := by rfl) (ha : a < 2 ^ 31 := by omega) (hb : b < 2 ^ 31 := by omega) : (x ≤ y → A) ∧ (¬ x ≤ y → B) := by
  subst hx hy
  rw [nI_leI ha hb]
  exact ⟨f, fun z => g (by omega)⟩
theorem pk_lt {x y : Int32} {A B : Prop} (a b : Nat) (f : a < b → A) (g : b ≤ a → B) (hx : x = nI a := by rfl) (hy : y = nI b := by rfl) (ha : a < 2 ^ 31 := by omega) (hb : b < 2 ^ 31 := by omega) : (x < y → A) ∧ (¬ x < y → B) := by
  subst hx hy
  rw [nI_ltI ha hb]
  exact ⟨f, fun z => g (by omega)⟩
theorem pk_eq {x y : Int32} {A B : Prop} (a b : Nat) (f : a = b → A) (g : a ≠ b → B) (hx : x = nI a := by rfl) (hy : y = nI b := by rfl) (ha : a < 2 ^ 31 := by omega) (hb : b < 2 ^ 31 := by omega) : (x = y → A) ∧ (¬ x = y → B) := by
  subst hx hy
  rw [nI_eq ha hb]
  exact ⟨f, g⟩
theorem pk_in {x : Int32} (n N : Nat) (h : n < N) (hx : x = nI n := by rfl) (hN : N < 2 ^ 31 := by omega) : vp_in x N := by
  subst hx
  exact vp_in_nI h hN
theorem pk_cl {x : Int32} (n : Nat) (hx : x = nI n := by rfl) (h : n < 2 ^ 31 := by omega) : x.toNatClampNeg = n := by
  subst hx
  exact nI_clamp h
theorem pk_tn {n : Nat} (h : n < 2 ^ 32) : (nI n).toBitVec.toNat = n := Nat.mod_eq_of_lt h
theorem pk_and (x : Int32) {m : Int32} (k : Nat) (hm : m.toBitVec.toNat = 2 ^ k - 1) : x &&& m = nI (x.toBitVec.toNat % 2 ^ k) := by
  apply Int32.toBitVec_inj.mp
  apply BitVec.eq_of_toNat_eq
  rw [Int32.toBitVec_and, BitVec.toNat_and, hm, Nat.and_two_pow_sub_one_eq_mod]
  show _ = (BitVec.ofNat 32 _).toNat
  rw [BitVec.toNat_ofNat]
  exact (Nat.mod_eq_of_lt (Nat.lt_of_le_of_lt (Nat.mod_le _ _) x.toBitVec.isLt)).symm
theorem pk_andN {n : Nat} (h : n < 2 ^ 32) {m : Int32} (k : Nat) (hm : m.toBitVec.toNat = 2 ^ k - 1) : nI n &&& m = nI (n % 2 ^ k) := by
  rw [pk_and _ k hm, pk_tn h]
theorem pk_shl (a s : Int32) (k : Nat) (hs : (s.toBitVec.smod 32).toNat = k) : (a <<< s).toBitVec.toNat = a.toBitVec.toNat * 2 ^ k % 2 ^ 32 := by
  show (a.toBitVec <<< (s.toBitVec.smod 32).toNat).toNat = _
  rw [hs, BitVec.toNat_shiftLeft, Nat.shiftLeft_eq]
theorem pk_shlN {n : Nat} (s : Int32) (k : Nat) (hs : (s.toBitVec.smod 32).toNat = k) (h : n * 2 ^ k < 2 ^ 32) : nI n <<< s = nI (n * 2 ^ k) := by
  apply Int32.toBitVec_inj.mp
  apply BitVec.eq_of_toNat_eq
  have hn : n < 2 ^ 32 := Nat.lt_of_le_of_lt (Nat.le_mul_of_pos_right n (Nat.two_pow_pos k)) h
  rw [pk_shl _ _ k hs, pk_tn hn, pk_tn h, Nat.mod_eq_of_lt h]
theorem pk_shr (a s : Int32) (k : Nat) (hs : (s.toBitVec.smod 32).toNat = k) : (a >>> s).toInt = a.toInt >>> k := by
  show (a.toBitVec.sshiftRight (s.toBitVec.smod 32).toNat).toInt = _
  rw [hs, BitVec.toInt_sshiftRight]
  rfl
theorem pk_shrN {n : Nat} (h : n < 2 ^ 31) (s : Int32) (k : Nat) (hs : (s.toBitVec.smod 32).toNat = k) : nI n >>> s = nI (n / 2 ^ k) := by
  apply Int32.toInt_inj.mp
  have h2 : n / 2 ^ k ≤ n := Nat.div_le_self _ _
  rw [pk_shr _ _ k hs, nI_toInt h, nI_toInt (by omega), Int.shiftRight_eq_div_pow]
  rfl
theorem s_l : ∀ n, n < 32 → ((nI n &&& 31).toBitVec.smod 32).toNat = n := by decide +kernel
theorem nx_and (a b : Nat) : nI a &&& nI b = nI (a &&& b) := by
  apply Int32.toBitVec_inj.1
  show BitVec.ofNat 32 a &&& BitVec.ofNat 32 b = BitVec.ofNat 32 (a &&& b)
  apply BitVec.eq_of_getLsbD_eq
  intro i hi
  simp [hi]
end
section
/-! the program's blocks: F, S are the two arcs' ends as ints (-1: none) -/
def pp_wf (F S : Nat → Int) : Prop := ∀ b, b < 9 → -1 ≤ F b ∧ F b ≤ 8 ∧ -1 ≤ S b ∧ S b ≤ 8 ∧ (F b = -1 → S b = -1) ∧ (F b = S b → F b = -1)
def pp_en (F S : Nat → Int) (b : Nat) : Bool := decide (F b ≤ (b : Int) ∨ (0 ≤ S b ∧ S b ≤ (b : Int)))
/-- all paths from b, in the order of their numbers, by fuel -/
def pp_L (F S : Nat → Int) : Nat → Nat → List (List Nat)
  | 0, _ => []
  | n + 1, b => (if pp_en F S b = true then [[b]] else []) ++ ((if (b : Int) < F b then (pp_L F S n (F b).toNat).map (fun t => b :: t) else []) ++ (if (b : Int) < S b then (pp_L F S n (S b).toNat).map (fun t => b :: t) else []))
theorem pp_L_fuel {F S : Nat → Int} (hw : pp_wf F S) : ∀ (n m b : Nat), b < 9 → 9 - b ≤ n → 9 - b ≤ m → pp_L F S n b = pp_L F S m b := by
  intro n
  induction n with
  | zero => intro m b hb h1; omega
  | succ n ih =>
    intro m b hb h1 h2
    cases m with
    | zero => omega
    | succ m =>
      obtain ⟨w1, w2, w3, w4, _⟩ := hw b hb
      have eF : (b : Int) < F b → pp_L F S n (F b).toNat = pp_L F S m (F b).toNat := fun h => ih m _ (by omega) (by omega) (by omega)
      have eS : (b : Int) < S b → pp_L F S n (S b).toNat = pp_L F S m (S b).toNat := fun h => ih m _ (by omega) (by omega) (by omega)
      rw [pp_L, pp_L]
      by_cases h3 : (b : Int) < F b <;> by_cases h4 : (b : Int) < S b
      · rw [eF h3, eS h4]
      · rw [if_neg h4, if_neg h4, eF h3]
      · rw [if_neg h3, if_neg h3, eS h4]
      · rw [if_neg h3, if_neg h3, if_neg h4, if_neg h4]
def pp_LL (F S : Nat → Int) (b : Nat) : List (List Nat) := pp_L F S 9 b
def pp_M (F S : Nat → Int) (b : Nat) (x : Int) : List (List Nat) := if (b : Int) < x then (pp_LL F S x.toNat).map (fun t => b :: t) else []
def pp_E (F S : Nat → Int) (b : Nat) : List (List Nat) := if pp_en F S b = true then [[b]] else []
theorem pp_LL_eq {F S : Nat → Int} (hw : pp_wf F S) {b : Nat} (hb : b < 9) : pp_LL F S b = pp_E F S b ++ (pp_M F S b (F b) ++ pp_M F S b (S b)) := by
  obtain ⟨w1, w2, w3, w4, _⟩ := hw b hb
  have e0 : pp_LL F S b = (if pp_en F S b = true then [[b]] else []) ++ ((if (b : Int) < F b then (pp_L F S 8 (F b).toNat).map (fun t => b :: t) else []) ++ (if (b : Int) < S b then (pp_L F S 8 (S b).toNat).map (fun t => b :: t) else [])) := rfl
  have eF : (b : Int) < F b → pp_L F S 8 (F b).toNat = pp_LL F S (F b).toNat := fun h => pp_L_fuel hw 8 9 _ (by omega) (by omega) (by omega)
  have eS : (b : Int) < S b → pp_L F S 8 (S b).toNat = pp_LL F S (S b).toNat := fun h => pp_L_fuel hw 8 9 _ (by omega) (by omega) (by omega)
  rw [e0]
  unfold pp_E pp_M
  by_cases h3 : (b : Int) < F b <;> by_cases h4 : (b : Int) < S b
  · rw [eF h3, eS h4]
  · rw [if_neg h4, if_neg h4, eF h3]
  · rw [if_neg h3, if_neg h3, eS h4]
  · rw [if_neg h3, if_neg h3, if_neg h4, if_neg h4]
def pp_W (F S : Nat → Int) (b : Nat) : Nat := (pp_LL F S b).length
def pp_wt (F S : Nat → Int) (b : Nat) (x : Int) : Nat := if (b : Int) < x then pp_W F S x.toNat else 0
def pp_own (F S : Nat → Int) (b : Nat) : Nat := if pp_en F S b = true then 1 else 0
theorem pp_E_len (F S : Nat → Int) (b : Nat) : (pp_E F S b).length = pp_own F S b := by
  unfold pp_E pp_own
  by_cases h : pp_en F S b = true
  · rw [if_pos h, if_pos h]; rfl
  · rw [if_neg h, if_neg h]; rfl
theorem pp_M_len (F S : Nat → Int) (b : Nat) (x : Int) : (pp_M F S b x).length = pp_wt F S b x := by
  unfold pp_M pp_wt
  by_cases h : (b : Int) < x
  · rw [if_pos h, if_pos h, List.length_map]; rfl
  · rw [if_neg h, if_neg h]; rfl
theorem pp_W_eq {F S : Nat → Int} (hw : pp_wf F S) {b : Nat} (hb : b < 9) : pp_W F S b = pp_own F S b + (pp_wt F S b (F b) + pp_wt F S b (S b)) := by
  unfold pp_W
  rw [pp_LL_eq hw hb, List.length_append, List.length_append, pp_E_len, pp_M_len, pp_M_len]
theorem pp_M_in {F S : Nat → Int} {b : Nat} {x : Int} {p : List Nat} : p ∈ pp_M F S b x ↔ (b : Int) < x ∧ ∃ q, q ∈ pp_LL F S x.toNat ∧ p = b :: q := by
  unfold pp_M
  by_cases h : (b : Int) < x
  · rw [if_pos h, List.mem_map]
    constructor
    · rintro ⟨q, hq, rfl⟩; exact ⟨h, q, hq, rfl⟩
    · rintro ⟨_, q, hq, rfl⟩; exact ⟨q, hq, rfl⟩
  · rw [if_neg h]
    constructor
    · intro z; cases z
    · intro z; exact absurd z.1 h
theorem pp_E_in {F S : Nat → Int} {b : Nat} {p : List Nat} : p ∈ pp_E F S b ↔ pp_en F S b = true ∧ p = [b] := by
  unfold pp_E
  by_cases h : pp_en F S b = true
  · rw [if_pos h, List.mem_singleton]
    exact ⟨fun z => ⟨h, z⟩, fun z => z.2⟩
  · rw [if_neg h]
    constructor
    · intro z; cases z
    · intro z; exact absurd z.1 h
theorem pp_LL_in {F S : Nat → Int} (hw : pp_wf F S) {b : Nat} (hb : b < 9) {p : List Nat} : p ∈ pp_LL F S b ↔ (pp_en F S b = true ∧ p = [b]) ∨ ((b : Int) < F b ∧ ∃ q, q ∈ pp_LL F S (F b).toNat ∧ p = b :: q) ∨ ((b : Int) < S b ∧ ∃ q, q ∈ pp_LL F S (S b).toNat ∧ p = b :: q) := by
  rw [pp_LL_eq hw hb, List.mem_append, List.mem_append, pp_E_in, pp_M_in, pp_M_in]
theorem pp_LL_hd {F S : Nat → Int} (hw : pp_wf F S) {b : Nat} (hb : b < 9) {p : List Nat} (h : p ∈ pp_LL F S b) : ∃ t, p = b :: t := by
  rcases (pp_LL_in hw hb).mp h with ⟨_, h⟩ | ⟨_, q, _, h⟩ | ⟨_, q, _, h⟩
  · exact ⟨[], h⟩
  · exact ⟨q, h⟩
  · exact ⟨q, h⟩
/-! places -/
theorem pp_at0 {F S : Nat → Int} (hw : pp_wf F S) {b : Nat} (hb : b < 9) (h : pp_en F S b = true) : (pp_LL F S b)[0]? = some [b] := by
  rw [pp_LL_eq hw hb]
  unfold pp_E
  rw [if_pos h]
  rfl
theorem pp_M_at {F S : Nat → Int} {b : Nat} {x : Int} (h : (b : Int) < x) {j : Nat} {q : List Nat} (hq : (pp_LL F S x.toNat)[j]? = some q) : (pp_M F S b x)[j]? = some (b :: q) := by
  unfold pp_M
  rw [if_pos h, List.getElem?_map, hq]
  rfl
theorem pp_some_lt {α : Type} {l : List α} {j : Nat} {q : α} (h : l[j]? = some q) : j < l.length := (List.getElem?_eq_some_iff.mp h).1
theorem pp_at1 {F S : Nat → Int} (hw : pp_wf F S) {b : Nat} (hb : b < 9) (h : (b : Int) < F b) {j : Nat} {q : List Nat} (hq : (pp_LL F S (F b).toNat)[j]? = some q) : (pp_LL F S b)[pp_own F S b + j]? = some (b :: q) := by
  have e := pp_M_at h hq
  have l := pp_some_lt e
  rw [pp_LL_eq hw hb, List.getElem?_append_right (by rw [pp_E_len]; omega), pp_E_len, Nat.add_sub_cancel_left, List.getElem?_append_left l]
  exact e
theorem pp_at2 {F S : Nat → Int} (hw : pp_wf F S) {b : Nat} (hb : b < 9) (h : (b : Int) < S b) {j : Nat} {q : List Nat} (hq : (pp_LL F S (S b).toNat)[j]? = some q) : (pp_LL F S b)[pp_own F S b + pp_wt F S b (F b) + j]? = some (b :: q) := by
  have e := pp_M_at h hq
  rw [pp_LL_eq hw hb, List.getElem?_append_right (by rw [pp_E_len]; omega), pp_E_len, List.getElem?_append_right (by rw [pp_M_len]; omega), pp_M_len]
  rw [show pp_own F S b + pp_wt F S b (F b) + j - pp_own F S b - pp_wt F S b (F b) = j by omega]
  exact e
def pp_add (F S : Nat → Int) (b : Nat) (x : Int) : Nat := if x = F b then pp_own F S b else pp_own F S b + pp_wt F S b (F b)
theorem pp_at {F S : Nat → Int} (hw : pp_wf F S) {b c : Nat} (hb : b < 9) (hc : b < c) (h : F b = (c : Int) ∨ S b = (c : Int)) {j : Nat} {q : List Nat} (hq : (pp_LL F S c)[j]? = some q) : (pp_LL F S b)[pp_add F S b (c : Int) + j]? = some (b :: q) := by
  unfold pp_add
  by_cases e : (c : Int) = F b
  · rw [if_pos e]
    refine pp_at1 hw hb (by omega) ?_
    rw [← e]
    exact hq
  · rw [if_neg e]
    have e2 : S b = (c : Int) := by omega
    refine pp_at2 hw hb (by omega) ?_
    rw [e2]
    exact hq
theorem pp_M_inv {F S : Nat → Int} {b : Nat} {x : Int} {j : Nat} {q : List Nat} (h : (pp_M F S b x)[j]? = some q) : (b : Int) < x ∧ ∃ q', q = b :: q' ∧ (pp_LL F S x.toNat)[j]? = some q' := by
  unfold pp_M at h
  by_cases c : (b : Int) < x
  · rw [if_pos c, List.getElem?_map] at h
    cases e : (pp_LL F S x.toNat)[j]? with
    | none => rw [e] at h; cases h
    | some q' =>
      rw [e] at h
      exact ⟨c, q', (Option.some.inj h).symm, rfl⟩
  · rw [if_neg c] at h; cases h
theorem pp_inv {F S : Nat → Int} (hw : pp_wf F S) {b : Nat} (hb : b < 9) {r : Nat} {q : List Nat} (h : (pp_LL F S b)[r]? = some q) :
    (r < pp_own F S b ∧ q = [b]) ∨ (pp_own F S b ≤ r ∧ r - pp_own F S b < pp_wt F S b (F b) ∧ (b : Int) < F b ∧ ∃ q', q = b :: q' ∧ (pp_LL F S (F b).toNat)[r - pp_own F S b]? = some q')
    ∨ (pp_own F S b ≤ r ∧ pp_wt F S b (F b) ≤ r - pp_own F S b ∧ (b : Int) < S b ∧ ∃ q', q = b :: q' ∧ (pp_LL F S (S b).toNat)[r - pp_own F S b - pp_wt F S b (F b)]? = some q') := by
  rw [pp_LL_eq hw hb] at h
  rcases Nat.lt_or_ge r (pp_own F S b) with c | c
  · left
    rw [List.getElem?_append_left (by rw [pp_E_len]; exact c)] at h
    exact ⟨c, (pp_E_in.mp (List.mem_of_getElem? h)).2⟩
  · right
    rw [List.getElem?_append_right (by rw [pp_E_len]; exact c), pp_E_len] at h
    rcases Nat.lt_or_ge (r - pp_own F S b) (pp_wt F S b (F b)) with d | d
    · left
      rw [List.getElem?_append_left (by rw [pp_M_len]; exact d)] at h
      exact ⟨c, d, pp_M_inv h⟩
    · right
      rw [List.getElem?_append_right (by rw [pp_M_len]; exact d), pp_M_len] at h
      exact ⟨c, d, pp_M_inv h⟩
/-! members -/
def pp_ok (F S : Nat → Int) : Nat → List Nat → Bool
  | b, [] => pp_en F S b
  | b, c :: t => decide (b < c ∧ (F b = (c : Int) ∨ S b = (c : Int))) && pp_ok F S c t
theorem pp_mem {F S : Nat → Int} (hw : pp_wf F S) : ∀ (t : List Nat) (b : Nat), b < 9 → (b :: t ∈ pp_LL F S b ↔ pp_ok F S b t = true) := by
  intro t
  induction t with
  | nil =>
    intro b hb
    obtain ⟨w1, w2, w3, w4, _⟩ := hw b hb
    rw [pp_LL_in hw hb, pp_ok]
    constructor
    · rintro (⟨h, _⟩ | ⟨c, q, hq, h⟩ | ⟨c, q, hq, h⟩)
      · exact h
      · obtain ⟨t, rfl⟩ := pp_LL_hd hw (by omega) hq
        cases h
      · obtain ⟨t, rfl⟩ := pp_LL_hd hw (by omega) hq
        cases h
    · intro h; exact Or.inl ⟨h, rfl⟩
  | cons c t ih =>
    intro b hb
    obtain ⟨w1, w2, w3, w4, _⟩ := hw b hb
    rw [pp_LL_in hw hb, pp_ok, Bool.and_eq_true, decide_eq_true_eq]
    constructor
    · rintro (⟨_, h⟩ | ⟨l, q, hq, h⟩ | ⟨l, q, hq, h⟩)
      · cases h
      · obtain ⟨t', rfl⟩ := pp_LL_hd hw (by omega) hq
        injection h with _ h
        injection h with h1 h2
        subst h2
        have e : (F b).toNat = c := h1.symm
        rw [e] at hq
        exact ⟨⟨by omega, Or.inl (by omega)⟩, (ih c (by omega)).mp hq⟩
      · obtain ⟨t', rfl⟩ := pp_LL_hd hw (by omega) hq
        injection h with _ h
        injection h with h1 h2
        subst h2
        have e : (S b).toNat = c := h1.symm
        rw [e] at hq
        exact ⟨⟨by omega, Or.inr (by omega)⟩, (ih c (by omega)).mp hq⟩
    · rintro ⟨⟨l, h | h⟩, k⟩
      · refine Or.inr (Or.inl ⟨by omega, c :: t, ?_, rfl⟩)
        rw [h]
        exact (ih c (by omega)).mpr k
      · refine Or.inr (Or.inr ⟨by omega, c :: t, ?_, rfl⟩)
        rw [h]
        exact (ih c (by omega)).mpr k
/-- a path's blocks grow and are blocks -/
def pp_srt (p : List Nat) : Prop := p.Pairwise (fun a b => a < b) ∧ ∀ x, x ∈ p → x < 9
theorem pp_ok_srt {F S : Nat → Int} (hw : pp_wf F S) : ∀ (t : List Nat) (b : Nat), b < 9 → pp_ok F S b t = true → pp_srt (b :: t) := by
  intro t
  induction t with
  | nil =>
    intro b hb _
    exact ⟨List.pairwise_singleton _ _, fun x hx => by rw [List.mem_singleton] at hx; omega⟩
  | cons c t ih =>
    intro b hb h
    obtain ⟨w1, w2, w3, w4, _⟩ := hw b hb
    rw [pp_ok, Bool.and_eq_true, decide_eq_true_eq] at h
    obtain ⟨⟨l, k⟩, h⟩ := h
    have hc : c < 9 := by omega
    obtain ⟨i1, i2⟩ := ih c hc h
    refine ⟨List.pairwise_cons.mpr ⟨fun x hx => ?_, i1⟩, fun x hx => ?_⟩
    · rcases List.mem_cons.mp hx with e | e
      · omega
      · have := (List.pairwise_cons.mp i1).1 x e
        omega
    · rcases List.mem_cons.mp hx with e | e
      · omega
      · exact i2 x e
theorem pp_nodupL {F S : Nat → Int} (hw : pp_wf F S) : ∀ (n b : Nat), b < 9 → 9 - b ≤ n → (pp_LL F S b).Nodup := by
  intro n
  induction n with
  | zero => intro b hb h; omega
  | succ n ih =>
    intro b hb h
    obtain ⟨w1, w2, w3, w4, _, w6⟩ := hw b hb
    have hM : ∀ x : Int, x ≤ 8 → (pp_M F S b x).Nodup := by
      intro x hx
      unfold pp_M
      by_cases c : (b : Int) < x
      · rw [if_pos c]
        refine List.pairwise_map.mpr ((ih x.toNat (by omega) (by omega)).imp ?_)
        intro p q hn he
        exact hn (List.cons.inj he).2
      · rw [if_neg c]; exact List.nodup_nil
    rw [pp_LL_eq hw hb, List.nodup_append, List.nodup_append]
    refine ⟨?_, ⟨hM _ w2, hM _ w4, ?_⟩, ?_⟩
    · unfold pp_E
      by_cases c : pp_en F S b = true
      · rw [if_pos c]; exact List.pairwise_singleton _ _
      · rw [if_neg c]; exact List.nodup_nil
    · intro p hp q hq e
      subst e
      obtain ⟨l1, q1, m1, e1⟩ := pp_M_in.mp hp
      obtain ⟨l2, q2, m2, e2⟩ := pp_M_in.mp hq
      obtain ⟨t1, rfl⟩ := pp_LL_hd hw (by omega) m1
      obtain ⟨t2, rfl⟩ := pp_LL_hd hw (by omega) m2
      rw [e1] at e2
      have := (List.cons.inj (List.cons.inj e2).2).1
      omega
    · intro p hp q hq e
      subst e
      obtain ⟨_, e0⟩ := pp_E_in.mp hp
      rcases List.mem_append.mp hq with hq | hq
      · obtain ⟨l1, q1, m1, e1⟩ := pp_M_in.mp hq
        obtain ⟨t1, rfl⟩ := pp_LL_hd hw (by omega) m1
        rw [e0] at e1
        cases e1
      · obtain ⟨l1, q1, m1, e1⟩ := pp_M_in.mp hq
        obtain ⟨t1, rfl⟩ := pp_LL_hd hw (by omega) m1
        rw [e0] at e1
        cases e1
end
section
/-! heads, the list of all paths, the numbers where a head's paths begin -/
def pp_bk (F S : Nat → Int) (a c : Nat) : Bool := decide (c ≤ a ∧ (F a = (c : Int) ∨ S a = (c : Int)))
def pp_hU (F S : Nat → Int) (k c : Nat) : Bool := decide (c = 0) || (List.range k).any (fun a => pp_bk F S a c)
def pp_hd (F S : Nat → Int) (c : Nat) : Bool := pp_hU F S 9 c
theorem pp_hU_0 (F S : Nat → Int) (c : Nat) : pp_hU F S 0 c = decide (c = 0) := by
  unfold pp_hU
  rw [List.range_zero, List.any_nil, Bool.or_false]
theorem pp_hU_s (F S : Nat → Int) (k c : Nat) : pp_hU F S (k + 1) c = (pp_hU F S k c || pp_bk F S k c) := by
  unfold pp_hU
  rw [List.range_succ, List.any_append, List.any_cons, List.any_nil, Bool.or_false, Bool.or_assoc]
theorem pp_hd_iff {F S : Nat → Int} {c : Nat} : pp_hd F S c = true ↔ c = 0 ∨ ∃ a, a < 9 ∧ c ≤ a ∧ (F a = (c : Int) ∨ S a = (c : Int)) := by
  unfold pp_hd pp_hU
  rw [Bool.or_eq_true, decide_eq_true_eq, List.any_eq_true]
  constructor
  · rintro (h | ⟨a, ha, h⟩)
    · exact Or.inl h
    · unfold pp_bk at h
      rw [decide_eq_true_eq] at h
      exact Or.inr ⟨a, List.mem_range.mp ha, h⟩
  · rintro (h | ⟨a, ha, h⟩)
    · exact Or.inl h
    · refine Or.inr ⟨a, List.mem_range.mpr ha, ?_⟩
      unfold pp_bk
      rw [decide_eq_true_eq]
      exact h
theorem pp_hd_0 (F S : Nat → Int) : pp_hd F S 0 = true := pp_hd_iff.mpr (Or.inl rfl)
def pp_g (F S : Nat → Int) (b : Nat) : List (List Nat) := if pp_hd F S b = true then pp_LL F S b else []
def pp_PK (F S : Nat → Int) (k : Nat) : List (List Nat) := (List.range k).flatMap (pp_g F S)
def pp_PL (F S : Nat → Int) : List (List Nat) := pp_PK F S 9
def pp_base (F S : Nat → Int) (k : Nat) : Nat := (pp_PK F S k).length
theorem pp_PK_s (F S : Nat → Int) (k : Nat) : pp_PK F S (k + 1) = pp_PK F S k ++ pp_g F S k := by
  unfold pp_PK
  rw [List.range_succ, List.flatMap_append, List.flatMap_cons, List.flatMap_nil, List.append_nil]
theorem pp_base_0 (F S : Nat → Int) : pp_base F S 0 = 0 := rfl
theorem pp_base_h {F S : Nat → Int} {k : Nat} (h : pp_hd F S k = true) : pp_base F S (k + 1) = pp_base F S k + pp_W F S k := by
  unfold pp_base
  rw [pp_PK_s, List.length_append]
  unfold pp_g
  rw [if_pos h]
  rfl
theorem pp_base_n {F S : Nat → Int} {k : Nat} (h : ¬ pp_hd F S k = true) : pp_base F S (k + 1) = pp_base F S k := by
  unfold pp_base
  rw [pp_PK_s, List.length_append]
  unfold pp_g
  rw [if_neg h]
  rfl
theorem pp_base_le {F S : Nat → Int} {h : Nat} : ∀ d, pp_base F S h ≤ pp_base F S (h + d) := by
  intro d
  induction d with
  | zero => exact Nat.le_refl _
  | succ d ih =>
    by_cases c : pp_hd F S (h + d) = true
    · have := pp_base_h c
      rw [← Nat.add_assoc]; omega
    · have := pp_base_n c
      rw [← Nat.add_assoc]; omega
theorem pp_hpos {F S : Nat → Int} : ∀ (K h j : Nat) (p : List Nat), h < K → pp_hd F S h = true → (pp_LL F S h)[j]? = some p → (pp_PK F S K)[pp_base F S h + j]? = some p := by
  intro K
  induction K with
  | zero => intro h j p hK; omega
  | succ K ih =>
    intro h j p hK hh hp
    rw [pp_PK_s]
    rcases Nat.lt_or_ge h K with c | c
    · have e := ih h j p c hh hp
      rw [List.getElem?_append_left (pp_some_lt e)]
      exact e
    · have e : h = K := by omega
      subst e
      rw [List.getElem?_append_right (by unfold pp_base; omega)]
      unfold pp_base pp_g
      rw [if_pos hh, Nat.add_sub_cancel_left]
      exact hp
theorem pp_hinv {F S : Nat → Int} : ∀ (K h k : Nat) (p : List Nat), h < K → pp_hd F S h = true → pp_base F S h ≤ k → k < pp_base F S (h + 1) → (pp_PK F S K)[k]? = some p → (pp_LL F S h)[k - pp_base F S h]? = some p := by
  intro K
  induction K with
  | zero => intro h j p hK; omega
  | succ K ih =>
    intro h k p hK hh h1 h2 hp
    rw [pp_PK_s] at hp
    rcases Nat.lt_or_ge h K with c | c
    · have l : pp_base F S (h + 1) ≤ pp_base F S K := by
        have := pp_base_le (F := F) (S := S) (h := h + 1) (K - (h + 1))
        rw [show h + 1 + (K - (h + 1)) = K by omega] at this
        exact this
      rw [List.getElem?_append_left (by unfold pp_base at l h2; omega)] at hp
      exact ih h k p c hh h1 h2 hp
    · have e : h = K := by omega
      subst e
      rw [List.getElem?_append_right (by unfold pp_base at h1; omega)] at hp
      unfold pp_g at hp
      rw [if_pos hh] at hp
      exact hp
/-- the last head at or below a number holds it -/
theorem pp_last {F S : Nat → Int} {h num : Nat} (hh : pp_hd F S h = true) : ∀ d, (∀ j, h < j → j < h + 1 + d → pp_hd F S j = true → num < pp_base F S j) → num < pp_base F S (h + 1 + d) → num < pp_base F S (h + 1) := by
  intro d
  induction d with
  | zero => intro _ h; exact h
  | succ d ih =>
    intro k l
    refine ih (fun j h1 h2 => k j h1 (by omega)) ?_
    by_cases c : pp_hd F S (h + 1 + d) = true
    · exact k _ (by omega) (by omega) c
    · have := pp_base_n c
      rw [← Nat.add_assoc] at l
      omega
theorem pp_PL_in {F S : Nat → Int} (hw : pp_wf F S) {p : List Nat} : p ∈ pp_PL F S ↔ ∃ b t, p = b :: t ∧ b < 9 ∧ pp_hd F S b = true ∧ pp_ok F S b t = true := by
  unfold pp_PL pp_PK
  rw [List.mem_flatMap]
  constructor
  · rintro ⟨b, hb, h⟩
    have hb := List.mem_range.mp hb
    unfold pp_g at h
    by_cases c : pp_hd F S b = true
    · rw [if_pos c] at h
      obtain ⟨t, rfl⟩ := pp_LL_hd hw hb h
      exact ⟨b, t, rfl, hb, c, (pp_mem hw t b hb).mp h⟩
    · rw [if_neg c] at h; cases h
  · rintro ⟨b, t, rfl, hb, c, h⟩
    refine ⟨b, List.mem_range.mpr hb, ?_⟩
    unfold pp_g
    rw [if_pos c]
    exact (pp_mem hw t b hb).mpr h
def pp_isP (F S : Nat → Int) : List Nat → Bool
  | [] => false
  | b :: t => pp_hd F S b && pp_ok F S b t
theorem pp_PL_isP {F S : Nat → Int} (hw : pp_wf F S) {p : List Nat} (h9 : ∀ x, x ∈ p → x < 9) : p ∈ pp_PL F S ↔ pp_isP F S p = true := by
  rw [pp_PL_in hw]
  cases p with
  | nil =>
    constructor
    · rintro ⟨b, t, h, _⟩; cases h
    · intro h; cases h
  | cons b t =>
    rw [pp_isP, Bool.and_eq_true]
    constructor
    · rintro ⟨b', t', h, _, h2, h3⟩
      cases h
      exact ⟨h2, h3⟩
    · rintro ⟨h2, h3⟩
      exact ⟨b, t, rfl, h9 b List.mem_cons_self, h2, h3⟩
theorem pp_PL_srt {F S : Nat → Int} (hw : pp_wf F S) {p : List Nat} (h : p ∈ pp_PL F S) : pp_srt p := by
  obtain ⟨b, t, rfl, hb, _, h⟩ := (pp_PL_in hw).mp h
  exact pp_ok_srt hw t b hb h
theorem pp_nodup {F S : Nat → Int} (hw : pp_wf F S) : (pp_PL F S).Nodup := by
  unfold pp_PL pp_PK
  refine List.pairwise_flatMap.mpr ⟨?_, ?_⟩
  · intro b hb
    have hb := List.mem_range.mp hb
    unfold pp_g
    by_cases c : pp_hd F S b = true
    · rw [if_pos c]; exact pp_nodupL hw 9 b hb (by omega)
    · rw [if_neg c]; exact List.nodup_nil
  · refine List.Pairwise.imp_of_mem ?_ List.nodup_range
    intro a b ha hb hn p hp q hq e
    subst e
    have ha := List.mem_range.mp ha
    have hb := List.mem_range.mp hb
    unfold pp_g at hp hq
    by_cases c : pp_hd F S a = true
    · by_cases d : pp_hd F S b = true
      · rw [if_pos c] at hp
        rw [if_pos d] at hq
        obtain ⟨t, rfl⟩ := pp_LL_hd hw ha hp
        obtain ⟨t', e⟩ := pp_LL_hd hw hb hq
        exact hn (List.cons.inj e).1
      · rw [if_neg d] at hq; cases hq
    · rw [if_neg c] at hp; cases hp
/-! how many -/
def pp_fb (b : Nat) : Nat := [55, 34, 21, 13, 8, 5, 3, 2, 1].getD b 0
theorem pp_fb2' : ((List.range 9).all fun b => (List.range 9).all fun c => (List.range 9).all fun d => decide (b < c ∧ b < d ∧ c ≠ d → pp_fb c + pp_fb d ≤ pp_fb b)) = true := by decide +kernel
theorem pp_fb2 (b : Nat) (hb : b < 9) (c : Nat) (hc : c < 9) (d : Nat) (hd : d < 9) (h1 : b < c) (h2 : b < d) (h3 : c ≠ d) : pp_fb c + pp_fb d ≤ pp_fb b := by
  have h := List.all_eq_true.mp (List.all_eq_true.mp (List.all_eq_true.mp pp_fb2' b (List.mem_range.mpr hb)) c (List.mem_range.mpr hc)) d (List.mem_range.mpr hd)
  exact of_decide_eq_true h ⟨h1, h2, h3⟩
theorem pp_fb1 : ∀ b, b < 9 → ∀ c, c < 9 → b < c → 1 + pp_fb c ≤ pp_fb b := by decide
theorem pp_fb0 : ∀ b, b < 9 → 1 ≤ pp_fb b := by decide
theorem pp_W_le {F S : Nat → Int} (hw : pp_wf F S) : ∀ (n b : Nat), b < 9 → 9 - b ≤ n → pp_W F S b ≤ pp_fb b ∧ 0 < pp_W F S b := by
  intro n
  induction n with
  | zero => intro b hb h; omega
  | succ n ih =>
    intro b hb h
    obtain ⟨w1, w2, w3, w4, w5, w6⟩ := hw b hb
    rw [pp_W_eq hw hb]
    have f0 := pp_fb0 b hb
    have hF : (b : Int) < F b → pp_W F S (F b).toNat ≤ pp_fb (F b).toNat ∧ 0 < pp_W F S (F b).toNat := fun c => ih _ (by omega) (by omega)
    have hS : (b : Int) < S b → pp_W F S (S b).toNat ≤ pp_fb (S b).toNat ∧ 0 < pp_W F S (S b).toNat := fun c => ih _ (by omega) (by omega)
    unfold pp_wt pp_own
    by_cases c : (b : Int) < F b
    · have ⟨c1, c2⟩ := hF c
      have g1 := pp_fb1 b hb (F b).toNat (by omega) (by omega)
      rw [if_pos c]
      by_cases d : (b : Int) < S b
      · have ⟨d1, d2⟩ := hS d
        have g2 := pp_fb2 b hb (F b).toNat (by omega) (S b).toNat (by omega) (by omega) (by omega) (by omega)
        have e : ¬ pp_en F S b = true := by
          unfold pp_en
          rw [decide_eq_true_eq]
          omega
        rw [if_neg e, if_pos d]
        omega
      · rw [if_neg d]
        by_cases e : pp_en F S b = true
        · rw [if_pos e]; omega
        · rw [if_neg e]; omega
    · have e : pp_en F S b = true := by
        unfold pp_en
        rw [decide_eq_true_eq]
        omega
      rw [if_neg c, if_pos e]
      by_cases d : (b : Int) < S b
      · have ⟨d1, d2⟩ := hS d
        have g1 := pp_fb1 b hb (S b).toNat (by omega) (by omega)
        rw [if_pos d]
        omega
      · rw [if_neg d]
        omega
theorem pp_base_b {F S : Nat → Int} (hw : pp_wf F S) {k : Nat} (hk : k < 9) : pp_base F S (k + 1) ≤ pp_base F S k + pp_fb k := by
  by_cases c : pp_hd F S k = true
  · rw [pp_base_h c]
    have := (pp_W_le hw 9 k hk (by omega)).1
    omega
  · rw [pp_base_n c]; omega
theorem pp_PL_len {F S : Nat → Int} (hw : pp_wf F S) : (pp_PL F S).length ≤ 142 := by
  show pp_base F S 9 ≤ 142
  have h0 : pp_base F S 1 ≤ pp_base F S 0 + 55 := pp_base_b hw (k := 0) (by omega)
  have h1 : pp_base F S 2 ≤ pp_base F S 1 + 34 := pp_base_b hw (k := 1) (by omega)
  have h2 : pp_base F S 3 ≤ pp_base F S 2 + 21 := pp_base_b hw (k := 2) (by omega)
  have h3 : pp_base F S 4 ≤ pp_base F S 3 + 13 := pp_base_b hw (k := 3) (by omega)
  have h4 : pp_base F S 5 ≤ pp_base F S 4 + 8 := pp_base_b hw (k := 4) (by omega)
  have h5 : pp_base F S 6 ≤ pp_base F S 5 + 5 := pp_base_b hw (k := 5) (by omega)
  have h6 : pp_base F S 7 ≤ pp_base F S 6 + 3 := pp_base_b hw (k := 6) (by omega)
  have h7 : pp_base F S 8 ≤ pp_base F S 7 + 2 := pp_base_b hw (k := 7) (by omega)
  have h8 : pp_base F S 9 ≤ pp_base F S 8 + 1 := pp_base_b hw (k := 8) (by omega)
  have z := pp_base_0 F S
  omega
theorem pp_base_lt {F S : Nat → Int} (hw : pp_wf F S) {k : Nat} (hk : k ≤ 9) : pp_base F S k ≤ 142 := by
  have a := pp_base_le (F := F) (S := S) (h := k) (9 - k)
  rw [show k + (9 - k) = 9 by omega] at a
  have b := pp_PL_len hw
  have e : (pp_PL F S).length = pp_base F S 9 := rfl
  omega
end
section
/-! a path as a set of blocks, and back -/
def pp_so : List Nat → Nat
  | [] => 0
  | b :: t => 2 ^ b + pp_so t
def pp_bits (n : Nat) : List Nat := (List.range 9).filter (fun b => n.testBit b)
theorem pp_so_app : ∀ (A B : List Nat), pp_so (A ++ B) = pp_so A + pp_so B := by
  intro A
  induction A with
  | nil => intro B; exact (Nat.zero_add _).symm
  | cons a A ih =>
    intro B
    rw [List.cons_append, pp_so, pp_so, ih, Nat.add_assoc]
theorem pp_bits_in {n x : Nat} : x ∈ pp_bits n ↔ x < 9 ∧ n.testBit x = true := by
  unfold pp_bits
  rw [List.mem_filter, List.mem_range]
theorem pp_bits_srt (n : Nat) : pp_srt (pp_bits n) := ⟨List.Pairwise.filter _ List.pairwise_lt_range, fun _ hx => (pp_bits_in.mp hx).1⟩
theorem pp_so_bits : ∀ n, n < 512 → pp_so (pp_bits n) = n := by decide +kernel
theorem pp_so_mul : ∀ (t : List Nat) (k : Nat), (∀ x, x ∈ t → k ≤ x) → ∃ m, pp_so t = 2 ^ k * m := by
  intro t
  induction t with
  | nil => intro k _; exact ⟨0, rfl⟩
  | cons a t ih =>
    intro k h
    obtain ⟨m, e⟩ := ih k (fun x hx => h x (List.mem_cons_of_mem _ hx))
    have ha := h a List.mem_cons_self
    refine ⟨2 ^ (a - k) + m, ?_⟩
    rw [pp_so, e, Nat.mul_add, ← Nat.pow_add, show k + (a - k) = a by omega]
theorem pp_so_tb : ∀ (p : List Nat), p.Pairwise (fun a b => a < b) → ∀ j, (pp_so p).testBit j = true ↔ j ∈ p := by
  intro p
  induction p with
  | nil =>
    intro _ j
    rw [pp_so, Nat.zero_testBit]
    exact ⟨fun h => (by cases h), fun h => (by cases h)⟩
  | cons c t ih =>
    intro h j
    obtain ⟨h1, h2⟩ := List.pairwise_cons.mp h
    obtain ⟨m, e⟩ := pp_so_mul t (c + 1) (fun x hx => h1 x hx)
    have i := ih h2 j
    rw [e, Nat.testBit_two_pow_mul] at i
    rw [pp_so, e, Nat.add_comm, Nat.testBit_two_pow_mul_add _ (Nat.pow_lt_pow_right (by decide) (by omega)), List.mem_cons]
    by_cases l : j < c + 1
    · rw [if_pos l, Nat.testBit_two_pow, decide_eq_true_eq]
      constructor
      · intro h; exact Or.inl h.symm
      · rintro (h | h)
        · exact h.symm
        · have := h1 j h; omega
    · rw [if_neg l]
      rw [Bool.and_eq_true, decide_eq_true_eq] at i
      constructor
      · intro h; exact Or.inr (i.mp ⟨by omega, h⟩)
      · rintro (h | h)
        · omega
        · exact (i.mpr h).2
theorem pp_srt_ext {p q : List Nat} (hp : p.Pairwise (fun a b => a < b)) (hq : q.Pairwise (fun a b => a < b)) (h : ∀ x, x ∈ p ↔ x ∈ q) : p = q := by
  have d : ∀ {l : List Nat}, l.Pairwise (fun a b => a < b) → l.Nodup := fun hl => hl.imp (fun h => by omega)
  exact List.Perm.eq_of_pairwise (le := fun a b => a < b) (fun a b _ _ h1 h2 => by omega) hp hq ((List.perm_ext_iff_of_nodup (d hp) (d hq)).mpr h)
theorem pp_bits_so {p : List Nat} (h : pp_srt p) : pp_bits (pp_so p) = p := by
  refine pp_srt_ext (pp_bits_srt _).1 h.1 ?_
  intro x
  rw [pp_bits_in, pp_so_tb p h.1]
  exact ⟨fun z => z.2, fun z => ⟨h.2 x z, z⟩⟩
theorem pp_so_lt' : ∀ (p : List Nat) (a k : Nat), p.Pairwise (fun a b => a < b) → (∀ x, x ∈ p → a ≤ x ∧ x < k) → a ≤ k → pp_so p + 2 ^ a ≤ 2 ^ k := by
  intro p
  induction p with
  | nil =>
    intro a k _ _ h
    rw [pp_so, Nat.zero_add]
    exact Nat.pow_le_pow_right (by decide) h
  | cons b t ih =>
    intro a k h1 h2 h
    obtain ⟨h3, h4⟩ := List.pairwise_cons.mp h1
    have hb := h2 b List.mem_cons_self
    have i := ih (b + 1) k h4 (fun x hx => ⟨h3 x hx, (h2 x (List.mem_cons_of_mem _ hx)).2⟩) (by omega)
    have e : 2 ^ a ≤ 2 ^ b := Nat.pow_le_pow_right (by decide) hb.1
    rw [Nat.pow_succ] at i
    rw [pp_so]
    omega
theorem pp_so_lt {p : List Nat} (h : pp_srt p) : pp_so p < 512 := by
  have := pp_so_lt' p 0 9 h.1 (fun x hx => ⟨Nat.zero_le _, h.2 x hx⟩) (by omega)
  rw [show (2 : Nat) ^ 9 = 512 from rfl, show (2 : Nat) ^ 0 = 1 from rfl] at this
  omega
theorem pp_so_inj {p q : List Nat} (hp : pp_srt p) (hq : pp_srt q) (h : pp_so p = pp_so q) : p = q := by
  rw [← pp_bits_so hp, ← pp_bits_so hq, h]
theorem pp_so_pos {p : List Nat} (h : p ≠ []) : 0 < pp_so p := by
  cases p with
  | nil => exact absurd rfl h
  | cons b t =>
    have := Nat.two_pow_pos b
    rw [pp_so]
    omega
theorem pp_srt_len {p : List Nat} (h : pp_srt p) : p.length ≤ 9 := by
  rw [← pp_bits_so h]
  unfold pp_bits
  refine Nat.le_trans (List.length_filter_le _ _) ?_
  rw [List.length_range]
  exact Nat.le_refl _
/-- the sets that are paths -/
def pp_Y (F S : Nat → Int) (n : Nat) : Bool := pp_isP F S (pp_bits n)
theorem pp_Y_in {F S : Nat → Int} (hw : pp_wf F S) {n : Nat} : pp_Y F S n = true ↔ pp_bits n ∈ pp_PL F S := (pp_PL_isP hw (pp_bits_srt n).2).symm
theorem pp_Y_so {F S : Nat → Int} (hw : pp_wf F S) {p : List Nat} (h : p ∈ pp_PL F S) : pp_Y F S (pp_so p) = true := by
  rw [pp_Y_in hw, pp_bits_so (pp_PL_srt hw h)]
  exact h
theorem pp_PL_ne {F S : Nat → Int} (hw : pp_wf F S) {p : List Nat} (h : p ∈ pp_PL F S) : p ≠ [] := by
  obtain ⟨b, t, rfl, _⟩ := (pp_PL_in hw).mp h
  intro z
  cases z
theorem pp_perm {F S : Nat → Int} (hw : pp_wf F S) : (pp_PL F S).Perm (((List.range' 1 511).filter (pp_Y F S)).map pp_bits) := by
  refine (List.perm_ext_iff_of_nodup (pp_nodup hw) ?_).mpr ?_
  · refine List.pairwise_map.mpr (List.Pairwise.imp_of_mem ?_ (List.Pairwise.filter _ (List.nodup_range' (s := 1) (n := 511))))
    intro a b ha hb hn e
    have ha := List.mem_range'_1.mp (List.mem_filter.mp ha).1
    have hb := List.mem_range'_1.mp (List.mem_filter.mp hb).1
    apply hn
    rw [← pp_so_bits a (by omega), ← pp_so_bits b (by omega), e]
  · intro p
    rw [List.mem_map]
    constructor
    · intro h
      have s := pp_PL_srt hw h
      refine ⟨pp_so p, List.mem_filter.mpr ⟨List.mem_range'_1.mpr ⟨pp_so_pos (pp_PL_ne hw h), ?_⟩, pp_Y_so hw h⟩, pp_bits_so s⟩
      have := pp_so_lt s
      omega
    · rintro ⟨n, hn, rfl⟩
      exact (pp_Y_in hw).mp (List.mem_filter.mp hn).2
/-- a fold whose steps commute: over the paths by number, over the sets in order -/
theorem pp_fold {β : Type} {F S : Nat → Int} (hw : pp_wf F S) (g : β → List Nat → β) (hc : ∀ p, p ∈ pp_PL F S → ∀ q, q ∈ pp_PL F S → ∀ z, g (g z p) q = g (g z q) p) (a : β) :
    (pp_PL F S).foldl g a = (List.range' 1 511).foldl (fun z n => if pp_Y F S n = true then g z (pp_bits n) else z) a := by
  rw [List.Perm.foldl_eq' (pp_perm hw) hc a, List.foldl_map, List.foldl_filter]
theorem pp_range_map {α : Type} (d : α) : ∀ (l : List α) , (List.range' 0 l.length).map (fun k => l.getD k d) = l := by
  intro l
  apply List.ext_getElem
  · rw [List.length_map, List.length_range']
  · intro i h1 h2
    rw [List.getElem_map, List.getElem_range', Nat.zero_add, Nat.one_mul, List.getD_eq_getElem?_getD, List.getElem?_eq_getElem h2, Option.getD_some]
theorem pp_foldk {α β : Type} (d : α) (g : β → α → β) (l : List α) (a : β) : (List.range' 0 l.length).foldl (fun z k => g z (l.getD k d)) a = l.foldl g a := by
  have := List.foldl_map (f := fun k => l.getD k d) (g := g) (l := List.range' 0 l.length) (init := a)
  rw [pp_range_map d l] at this
  exact this.symm
theorem pp_getD {α : Type} {l : List α} {k : Nat} (d : α) (h : k < l.length) : l[k]? = some (l.getD k d) := by
  rw [List.getD_eq_getElem?_getD, List.getElem?_eq_getElem h, Option.getD_some]
end
section
/-! codes and their digits -/
def pp_cf (a b : Nat) : Nat := a * 10 + b + 1
def pp_code (p : List Nat) : Nat := p.foldl pp_cf 0
/-- the last e digits of v, the highest first -/
def pp_dl (v : Nat) : Nat → List Nat
  | 0 => []
  | e + 1 => (v / 10 ^ e % 10) :: pp_dl v e
theorem pp_dl_code : ∀ (p : List Nat) (a : Nat), (∀ x, x ∈ p → x < 9) → p.foldl pp_cf a / 10 ^ p.length = a ∧ pp_dl (p.foldl pp_cf a) p.length = p.map (fun x => x + 1) := by
  intro p
  induction p with
  | nil =>
    intro a _
    exact ⟨Nat.div_one _, rfl⟩
  | cons x t ih =>
    intro a h
    have hx := h x List.mem_cons_self
    obtain ⟨i1, i2⟩ := ih (pp_cf a x) (fun y hy => h y (List.mem_cons_of_mem _ hy))
    rw [List.foldl_cons, List.length_cons, List.map_cons]
    constructor
    · rw [Nat.pow_succ, ← Nat.div_div_eq_div_mul, i1]
      unfold pp_cf
      omega
    · rw [pp_dl, i2, i1]
      have : pp_cf a x % 10 = x + 1 := by unfold pp_cf; omega
      rw [this]
theorem pp_code_hi {p : List Nat} (h : ∀ x, x ∈ p → x < 9) : pp_code p < 10 ^ p.length := by
  have := (pp_dl_code p 0 h).1
  have l : 0 < 10 ^ p.length := Nat.pow_pos (by decide)
  unfold pp_code
  rcases (Nat.div_eq_zero_iff).mp this with z | z
  · omega
  · exact z
theorem pp_code_lo {b : Nat} {t : List Nat} (h : ∀ x, x ∈ b :: t → x < 9) : pp_code (b :: t) / 10 ^ t.length = b + 1 := by
  have := (pp_dl_code t (pp_cf 0 b) (fun y hy => h y (List.mem_cons_of_mem _ hy))).1
  unfold pp_code
  rw [List.foldl_cons, this]
  unfold pp_cf
  omega
theorem pp_code_dl {p : List Nat} (h : ∀ x, x ∈ p → x < 9) : pp_dl (pp_code p) p.length = p.map (fun x => x + 1) := (pp_dl_code p 0 h).2
theorem pp_pow_len {v a b : Nat} (h1 : 10 ^ a ≤ v) (h2 : v < 10 ^ (b + 1)) : a ≤ b := by
  rcases Nat.lt_or_ge b a with h | h
  · have : 10 ^ (b + 1) ≤ 10 ^ a := Nat.pow_le_pow_right (by decide) h
    omega
  · exact h
theorem pp_code_ge {b : Nat} {t : List Nat} (h : ∀ x, x ∈ b :: t → x < 9) : 10 ^ t.length ≤ pp_code (b :: t) := by
  have e := pp_code_lo h
  have l : 0 < 10 ^ t.length := Nat.pow_pos (by decide)
  rcases Nat.lt_or_ge (pp_code (b :: t)) (10 ^ t.length) with c | c
  · rw [Nat.div_eq_of_lt c] at e; omega
  · exact c
theorem pp_code_inj {p q : List Nat} (hp : ∀ x, x ∈ p → x < 9) (hq : ∀ x, x ∈ q → x < 9) (h1 : p ≠ []) (h2 : q ≠ []) (h : pp_code p = pp_code q) : p = q := by
  cases p with
  | nil => exact absurd rfl h1
  | cons b t =>
    cases q with
    | nil => exact absurd rfl h2
    | cons c s =>
      have l1 := pp_code_ge hp
      have l2 := pp_code_ge hq
      have u1 := pp_code_hi hp
      have u2 := pp_code_hi hq
      rw [List.length_cons] at u1 u2
      have e1 : t.length ≤ s.length := pp_pow_len l1 (by rw [h]; exact u2)
      have e2 : s.length ≤ t.length := pp_pow_len l2 (by rw [← h]; exact u1)
      have d1 := pp_code_dl hp
      have d2 := pp_code_dl hq
      rw [h, show (b :: t).length = (c :: s).length by rw [List.length_cons, List.length_cons]; omega, d2] at d1
      exact (List.map_inj_right (fun x y h => by omega)).mp d1.symm
theorem pp_code_31 {p : List Nat} (h : pp_srt p) : pp_code p < 2 ^ 31 := by
  have u := pp_code_hi h.2
  have l := pp_srt_len h
  have : 10 ^ p.length ≤ 10 ^ 9 := Nat.pow_le_pow_right (by decide) l
  have e : (10 : Nat) ^ 9 = 1000000000 := by decide
  omega
/-- numberOf's walk over the digits behind block b -/
def pp_nOf (F S : Nat → Int) : Nat → List Nat → Option Nat
  | b, [] => if pp_en F S b = true then some 0 else none
  | b, d :: t => if b + 1 < d ∧ (F b = (d : Int) - 1 ∨ S b = (d : Int) - 1) then (pp_nOf F S (d - 1) t).map (fun j => pp_add F S b ((d : Int) - 1) + j) else none
theorem pp_nOf_s {F S : Nat → Int} (hw : pp_wf F S) : ∀ (ds : List Nat) (b j : Nat), b < 9 → pp_nOf F S b ds = some j → (pp_LL F S b)[j]? = some (b :: ds.map (fun d => d - 1)) := by
  intro ds
  induction ds with
  | nil =>
    intro b j hb h
    rw [pp_nOf] at h
    by_cases c : pp_en F S b = true
    · rw [if_pos c] at h
      cases h
      exact pp_at0 hw hb c
    · rw [if_neg c] at h; cases h
  | cons d t ih =>
    intro b j hb h
    obtain ⟨w1, w2, w3, w4, _⟩ := hw b hb
    rw [pp_nOf] at h
    by_cases c : b + 1 < d ∧ (F b = (d : Int) - 1 ∨ S b = (d : Int) - 1)
    · rw [if_pos c] at h
      cases e : pp_nOf F S (d - 1) t with
      | none => rw [e] at h; cases h
      | some i =>
        rw [e] at h
        have h := Option.some.inj h
        have k := ih (d - 1) i (by omega) e
        have ec : ((d - 1 : Nat) : Int) = (d : Int) - 1 := by omega
        have r := pp_at hw hb (c := d - 1) (by omega) (by rw [ec]; exact c.2) k
        rw [ec] at r
        rw [← h, List.map_cons]
        exact r
    · rw [if_neg c] at h; cases h
theorem pp_nOf_n {F S : Nat → Int} : ∀ (t : List Nat) (b : Nat), pp_nOf F S b (t.map (fun x => x + 1)) = none → ¬ pp_ok F S b t = true := by
  intro t
  induction t with
  | nil =>
    intro b h
    rw [List.map_nil, pp_nOf] at h
    rw [pp_ok]
    intro c
    rw [if_pos c] at h
    cases h
  | cons x t ih =>
    intro b h k
    rw [List.map_cons, pp_nOf] at h
    rw [pp_ok, Bool.and_eq_true, decide_eq_true_eq] at k
    obtain ⟨⟨k1, k2⟩, k3⟩ := k
    rw [if_pos ⟨by omega, by omega⟩, Nat.add_sub_cancel] at h
    cases e : pp_nOf F S x (t.map (fun x => x + 1)) with
    | none => exact ih x e k3
    | some i => rw [e] at h; cases h
/-! ranks -/
theorem pp_rank : ∀ (l : List Nat), l.Pairwise (fun a b => a < b) → ∀ (i x : Nat), l[i]? = some x → l.countP (fun y => decide (y < x)) = i := by
  intro l
  induction l with
  | nil => intro _ i x h; cases h
  | cons a t ih =>
    intro h i x hx
    obtain ⟨h1, h2⟩ := List.pairwise_cons.mp h
    cases i with
    | zero =>
      have e : a = x := Option.some.inj hx
      subst e
      rw [List.countP_eq_zero]
      intro y hy
      rw [decide_eq_true_eq]
      rcases List.mem_cons.mp hy with e | e
      · omega
      · have := h1 y e; omega
    | succ i =>
      have hx : t[i]? = some x := hx
      have l := h1 x (List.mem_of_getElem? hx)
      rw [List.countP_cons_of_pos (by rw [decide_eq_true_eq]; exact l), ih h2 i x hx]
end
section
/-! X's small methods -/
def pp_ti (f : Nat → Int32) : Nat → Int := fun b => (f b).toInt
theorem xw_z0 : (0 : Int32).toInt = 0 := by decide
theorem xw_z8 : (8 : Int32).toInt = 8 := by decide
theorem xw_z9 : (9 : Int32).toInt = 9 := by decide
theorem xw_m1 : (-1 : Int32).toInt = -1 := by decide
theorem xw_lt0 {x : Int32} : x < 0 ↔ x.toInt < 0 := by rw [Int32.lt_iff_toInt_lt, xw_z0]
theorem xw_0le {x : Int32} : 0 ≤ x ↔ 0 ≤ x.toInt := by rw [Int32.le_iff_toInt_le, xw_z0]
theorem xw_lt9 {x : Int32} : x < 9 ↔ x.toInt < 9 := by rw [Int32.lt_iff_toInt_lt, xw_z9]
theorem xw_9le {x : Int32} : 9 ≤ x ↔ 9 ≤ x.toInt := by rw [Int32.le_iff_toInt_le, xw_z9]
theorem xw_nIt {b : Nat} (hb : b < 9) : (nI b).toInt = (b : Int) := nI_toInt (by omega)
theorem xw_cl {b : Nat} (hb : b < 9) : (nI b).toNatClampNeg = b := nI_clamp (by omega)
theorem xw_in {b : Nat} (hb : b < 9) : vp_in (nI b) 9 := vp_in_nI hb (by decide)
theorem xw_of {x : Int32} (h0 : 0 ≤ x.toInt) : x = nI x.toInt.toNat := by
  apply Int32.toInt_inj.mp
  have := x.toInt_lt
  rw [nI_toInt (by omega)]
  omega
theorem xw_1 : ¬ (1 : Int32) = 0 := by decide
theorem xw_en {f s : Nat → Int32} {b : Nat} : pp_en (pp_ti f) (pp_ti s) b = true ↔ (f b).toInt ≤ (b : Int) ∨ (0 ≤ (s b).toInt ∧ (s b).toInt ≤ (b : Int)) := by
  unfold pp_en pp_ti
  rw [decide_eq_true_eq]
theorem xw_bad {post : Int32 → Prop} {num pa op sz : Int32} {f s wo ba cnt li co : Nat → Int32} {x : Int32} (h1 : 0 ≤ x.toInt → x.toInt < 9 → post 0) (h2 : ¬ (0 ≤ x.toInt ∧ x.toInt < 9) → post 1) : wpX_bad post (num, pa, op, sz, f, s, wo, ba, cnt, li, co) x := by
  unfold wpX_bad
  refine br_c (fun h => h2 ?_) (fun h => br_c (fun g => h1 ?_ ?_) (fun g => h2 ?_))
  · rw [xw_lt0] at h; omega
  · rw [xw_lt0] at h; omega
  · rw [xw_lt9] at g; exact g
  · rw [xw_lt9] at g; omega
theorem xw_back {post : Int32 → Prop} {num pa op sz : Int32} {f s wo ba cnt li co : Nat → Int32} {b : Nat} (hb : b < 9) {y : Int32} (h1 : 0 ≤ y.toInt → y.toInt ≤ (b : Int) → post 1) (h0 : ¬ (0 ≤ y.toInt ∧ y.toInt ≤ (b : Int)) → post 0) : wpX_back post (num, pa, op, sz, f, s, wo, ba, cnt, li, co) (nI b) y := by
  unfold wpX_back
  refine br_c (fun h => h0 ?_) (fun h => br_c (fun g => h0 ?_) (fun g => h1 ?_ ?_))
  · rw [xw_lt0] at h; omega
  · rw [Int32.lt_iff_toInt_lt, xw_nIt hb] at g; omega
  · rw [xw_lt0] at h; omega
  · rw [Int32.lt_iff_toInt_lt, xw_nIt hb] at g; omega
theorem xw_isEnd {post : Int32 → Prop} {num pa op sz : Int32} {f s wo ba cnt li co : Nat → Int32} {b : Nat} (hb : b < 9) (h1 : pp_en (pp_ti f) (pp_ti s) b = true → post 1) (h0 : ¬ pp_en (pp_ti f) (pp_ti s) b = true → post 0) : wpX_isEnd post (num, pa, op, sz, f, s, wo, ba, cnt, li, co) (nI b) := by
  unfold wpX_isEnd
  simp only [xw_cl hb]
  have hi := xw_in hb
  refine ⟨hi, br_c (fun c => h1 ?_) (fun c => ⟨hi, xw_back hb (fun g1 g2 => br_f xw_1 (h1 ?_)) (fun g => br_t rfl ⟨hi, xw_back hb (fun g1 g2 => br_f xw_1 (h1 ?_)) (fun g' => br_t rfl (h0 ?_))⟩)⟩)⟩
  · rw [xw_lt0] at c; exact xw_en.mpr (by omega)
  · exact xw_en.mpr (by omega)
  · exact xw_en.mpr (by omega)
  · rw [xw_lt0] at c
    rw [xw_en]
    omega
theorem xw_waysTo {post : Int32 → Prop} {num pa op sz : Int32} {f s wo ba cnt li co : Nat → Int32} {b : Nat} (hb : b < 9) {y : Int32} (hy : y.toInt ≤ 8) (hwo : ∀ c, b < c → c < 9 → wo c = nI (pp_W (pp_ti f) (pp_ti s) c)) (h : post (nI (pp_wt (pp_ti f) (pp_ti s) b y.toInt))) : wpX_waysTo post (num, pa, op, sz, f, s, wo, ba, cnt, li, co) (nI b) y := by
  unfold wpX_waysTo
  unfold pp_wt at h
  refine br_c (fun c => ?_) (fun c => ?_)
  · rw [Int32.le_iff_toInt_le, xw_nIt hb] at c
    rw [if_neg (by omega)] at h
    exact h
  · rw [Int32.le_iff_toInt_le, xw_nIt hb] at c
    rw [if_pos (by omega)] at h
    refine ⟨vp_in_iff.mpr (by omega), ?_⟩
    have e : y.toNatClampNeg = y.toInt.toNat := rfl
    rw [e, hwo _ (by omega) (by omega)]
    exact h
theorem xw_added13 {post : Int32 → Prop} {num pa op sz : Int32} {f s wo ba cnt li co : Nat → Int32} {b z : Nat} (hb : b < 9) {y : Int32} (hf : (f b).toInt ≤ 8) (hwo : ∀ c, b < c → c < 9 → wo c = nI (pp_W (pp_ti f) (pp_ti s) c)) (hz : z = pp_own (pp_ti f) (pp_ti s) b) (h : post (nI (pp_add (pp_ti f) (pp_ti s) b y.toInt))) : wX_added_13 post (nI b) y (nI z) num pa op sz f s wo ba cnt li co := by
  unfold wX_added_13
  simp only [xw_cl hb]
  have hi := xw_in hb
  unfold pp_add at h
  rw [← hz] at h
  have h : post (nI (if y.toInt = (f b).toInt then z else z + pp_wt (pp_ti f) (pp_ti s) b (f b).toInt)) := h
  refine ⟨hi, br_c (fun c => ?_) (fun c => ⟨hi, xw_waysTo hb hf hwo ?_⟩)⟩
  · rw [if_pos (congrArg Int32.toInt c)] at h
    exact h
  · rw [if_neg (fun e => c (Int32.toInt_inj.mp e))] at h
    rw [nI_add]
    exact h
theorem xw_own1 {f s : Nat → Int32} {b : Nat} (h : pp_en (pp_ti f) (pp_ti s) b = true) : 1 = pp_own (pp_ti f) (pp_ti s) b := by
  unfold pp_own
  rw [if_pos h]
theorem xw_own0 {f s : Nat → Int32} {b : Nat} (h : ¬ pp_en (pp_ti f) (pp_ti s) b = true) : 0 = pp_own (pp_ti f) (pp_ti s) b := by
  unfold pp_own
  rw [if_neg h]
theorem xw_added {post : Int32 → Prop} {num pa op sz : Int32} {f s wo ba cnt li co : Nat → Int32} {b : Nat} (hb : b < 9) {y : Int32} (hf : (f b).toInt ≤ 8) (hwo : ∀ c, b < c → c < 9 → wo c = nI (pp_W (pp_ti f) (pp_ti s) c)) (h : post (nI (pp_add (pp_ti f) (pp_ti s) b y.toInt))) : wpX_added post (num, pa, op, sz, f, s, wo, ba, cnt, li, co) (nI b) y := by
  unfold wpX_added
  exact xw_isEnd hb (fun c => br_f xw_1 (xw_added13 (z := 1) hb hf hwo (xw_own1 c) h)) (fun c => br_t rfl (xw_added13 (z := 0) hb hf hwo (xw_own0 c) h))
end
section
/-! X's numbering -/
def pp_Nb (f s : Nat → Int32) (pa : Int32) (wo ba : Nat → Int32) : Prop :=
  pa = nI (pp_PL (pp_ti f) (pp_ti s)).length ∧ (∀ b, b < 9 → wo b = nI (pp_W (pp_ti f) (pp_ti s) b)) ∧ (∀ b, b < 9 → ba b = if pp_hd (pp_ti f) (pp_ti s) b = true then nI (pp_base (pp_ti f) (pp_ti s) b) else -4)
theorem xw_n28 {post : SX → Prop} {J : Int32 → (Nat → Int32) → (Nat → Int32) → (Nat → Int32) → (Nat → Int32) → (Nat → Int32) → (Nat → Int32) → (Nat → Int32) → Prop} {num pa op sz : Int32} {f s wo ba cnt li co : Nat → Int32} (hw : pp_wf (pp_ti f) (pp_ti s)) {b z : Nat} (hb : b < 9)
    (hwo : ∀ c, b < c → c < 9 → wo c = nI (pp_W (pp_ti f) (pp_ti s) c)) (hz : z = pp_own (pp_ti f) (pp_ti s) b) (h : J (nI b + (-1)) f s (upd wo b (nI (pp_W (pp_ti f) (pp_ti s) b))) (upd ba b (-4)) cnt li co) : wX_number_28 post J (nI b) (nI z) num pa op sz f s wo ba cnt li co := by
  obtain ⟨w1, w2, w3, w4, _⟩ := hw b hb
  unfold wX_number_28
  simp only [xw_cl hb]
  have hi := xw_in hb
  have e : nI z + nI (pp_wt (pp_ti f) (pp_ti s) b (f b).toInt) + nI (pp_wt (pp_ti f) (pp_ti s) b (s b).toInt) = nI (pp_W (pp_ti f) (pp_ti s) b) := by
    rw [nI_add, nI_add, hz, pp_W_eq hw hb, Nat.add_assoc]
    rfl
  refine ⟨hi, xw_waysTo hb w2 hwo ⟨hi, xw_waysTo hb w4 hwo ⟨hi, ?_⟩⟩⟩
  rw [e]
  exact nm_e ⟨hi, nm_e (nm_e h)⟩
theorem xw_n11 {post : SX → Prop} {num pa op sz : Int32} {f s cnt li co : Nat → Int32} (hw : pp_wf (pp_ti f) (pp_ti s))
    (K : ∀ wo ba : Nat → Int32, (∀ c, c < 9 → wo c = nI (pp_W (pp_ti f) (pp_ti s) c)) → (∀ c, c < 9 → ba c = -4) → ∃ n83, wX_number_83 post num pa op sz n83 0 f s wo (upd ba 0 0) cnt li co) :
    ∀ (i : Nat) (wo ba : Nat → Int32), i ≤ 9 → (∀ c, i ≤ c → c < 9 → wo c = nI (pp_W (pp_ti f) (pp_ti s) c) ∧ ba c = -4) → wX_number_11 post num pa op sz (i + 1) (nI i + (-1)) f s wo ba cnt li co := by
  intro i
  induction i with
  | zero =>
    intro wo ba hi h
    rw [wX_number_11]
    exact br_t (by decide) (nm_e (K wo ba (fun c hc => (h c (Nat.zero_le _) hc).1) (fun c hc => (h c (Nat.zero_le _) hc).2)))
  | succ i ih =>
    intro wo ba hi h
    rw [wX_number_11, pk_m1]
    have hwo : ∀ c, i < c → c < 9 → wo c = nI (pp_W (pp_ti f) (pp_ti s) c) := fun c h1 h2 => (h c h1 h2).1
    have k : wX_number_11 post num pa op sz (i + 1) (nI i + (-1)) f s (upd wo i (nI (pp_W (pp_ti f) (pp_ti s) i))) (upd ba i (-4)) cnt li co := by
      refine ih _ _ (by omega) ?_
      intro c h1 h2
      by_cases e : c = i
      · subst e
        exact ⟨pk_us, pk_us⟩
      · rw [pk_un e, pk_un e]
        exact h c (by omega) h2
    exact br_f (nI_pos (by omega)) (xw_isEnd (by omega) (fun c => br_f xw_1 (xw_n28 (z := 1) hw (by omega) hwo (xw_own1 c) k)) (fun c => br_t rfl (xw_n28 (z := 0) hw (by omega) hwo (xw_own0 c) k)))
theorem xw_n115 {post : SX → Prop} {J : Int32 → (Nat → Int32) → (Nat → Int32) → (Nat → Int32) → (Nat → Int32) → (Nat → Int32) → (Nat → Int32) → (Nat → Int32) → Prop} {num pa op sz : Int32} {f s wo ba cnt li co : Nat → Int32} {i : Nat} (hb : i < 9)
    (h : ∀ ba2 : Nat → Int32, (∀ c, ba2 c = if c ≤ i ∧ (s i).toInt = (c : Int) then 0 else ba c) → J (nI (i + 1)) f s wo ba2 cnt li co) : wX_number_115 post J (nI i) num pa op sz f s wo ba cnt li co := by
  unfold wX_number_115
  simp only [xw_cl hb]
  have hi := xw_in hb
  refine ⟨hi, xw_back hb (fun g1 g2 => br_f xw_1 ⟨hi, vp_in_iff.mpr (by omega), nm_e (nm_r (nI_1 i) (h _ ?_))⟩) (fun g => br_t rfl (nm_r (nI_1 i) (h _ ?_)))⟩
  · intro c
    have e : (s i).toNatClampNeg = (s i).toInt.toNat := rfl
    unfold upd
    rw [e]
    by_cases q : c = (s i).toInt.toNat
    · rw [if_pos q, if_pos ⟨by omega, by omega⟩]
    · rw [if_neg q, if_neg (by omega)]
  · intro c
    rw [if_neg (by omega)]
theorem xw_n83 {post : SX → Prop} {num pa op sz : Int32} {f s wo cnt li co : Nat → Int32}
    (K : ∀ ba : Nat → Int32, (∀ c, c < 9 → ba c = if pp_hd (pp_ti f) (pp_ti s) c = true then 0 else -4) → ∃ n154, wX_number_154 post num op sz n154 0 0 f s wo ba cnt li co) :
    ∀ (d i : Nat) (ba : Nat → Int32), i + d = 9 → (∀ c, c < 9 → ba c = if pp_hU (pp_ti f) (pp_ti s) i c = true then 0 else -4) → wX_number_83 post num pa op sz (d + 1) (nI i) f s wo ba cnt li co := by
  intro d
  induction d with
  | zero =>
    intro i ba hi h
    rw [wX_number_83]
    have e : i = 9 := by omega
    subst e
    exact br_t (by decide) (K ba h)
  | succ d ih =>
    intro i ba hi h
    rw [wX_number_83]
    have hb : i < 9 := by omega
    have hv := xw_in hb
    have e : (f i).toNatClampNeg = (f i).toInt.toNat := rfl
    simp only [xw_cl hb]
    have fin : ∀ b1 b2 : Nat → Int32, (∀ c, b1 c = if c ≤ i ∧ (f i).toInt = (c : Int) then 0 else ba c) → (∀ c, b2 c = if c ≤ i ∧ (s i).toInt = (c : Int) then 0 else b1 c) → wX_number_83 post num pa op sz (d + 1) (nI (i + 1)) f s wo b2 cnt li co := by
      intro b1 b2 h1 h2
      refine ih (i + 1) b2 (by omega) ?_
      intro c hc
      rw [h2, h1, h c hc, pp_hU_s]
      have eb : pp_bk (pp_ti f) (pp_ti s) i c = decide (c ≤ i ∧ ((f i).toInt = (c : Int) ∨ (s i).toInt = (c : Int))) := rfl
      rw [eb]
      by_cases q : c ≤ i ∧ (s i).toInt = (c : Int)
      · rw [if_pos q, decide_eq_true ⟨q.1, Or.inr q.2⟩, Bool.or_true, if_pos rfl]
      · rw [if_neg q]
        by_cases q1 : c ≤ i ∧ (f i).toInt = (c : Int)
        · rw [if_pos q1, decide_eq_true ⟨q1.1, Or.inl q1.2⟩, Bool.or_true, if_pos rfl]
        · rw [if_neg q1, decide_eq_false (by omega), Bool.or_false]
    refine br_f (nI_ge (b := 9) hb (by decide)) ⟨hv, xw_back hb (fun g1 g2 => br_f xw_1 ⟨hv, vp_in_iff.mpr (by omega), nm_e (xw_n115 hb (fun b2 h2 => fin _ b2 ?_ h2))⟩) (fun g => br_t rfl (xw_n115 hb (fun b2 h2 => fin ba b2 ?_ h2)))⟩
    · intro c
      unfold upd
      rw [e]
      by_cases q : c = (f i).toInt.toNat
      · rw [if_pos q, if_pos ⟨by omega, by omega⟩]
      · rw [if_neg q, if_neg (by omega)]
    · intro c
      rw [if_neg (by omega)]
theorem xw_n154 {post : SX → Prop} {num op sz : Int32} {f s wo cnt li co : Nat → Int32} (hwo : ∀ c, c < 9 → wo c = nI (pp_W (pp_ti f) (pp_ti s) c))
    (K : ∀ ba : Nat → Int32, (∀ c, c < 9 → ba c = if pp_hd (pp_ti f) (pp_ti s) c = true then nI (pp_base (pp_ti f) (pp_ti s) c) else -4) → post (1, nI (pp_base (pp_ti f) (pp_ti s) 9), op, sz, f, s, wo, ba, cnt, li, co)) :
    ∀ (d i : Nat) (ba : Nat → Int32), i + d = 9 → (∀ c, c < 9 → ba c = if pp_hd (pp_ti f) (pp_ti s) c = true then (if c < i then nI (pp_base (pp_ti f) (pp_ti s) c) else 0) else -4) → wX_number_154 post num op sz (d + 1) (nI i) (nI (pp_base (pp_ti f) (pp_ti s) i)) f s wo ba cnt li co := by
  intro d
  induction d with
  | zero =>
    intro i ba hi h
    rw [wX_number_154]
    have e : i = 9 := by omega
    subst e
    refine br_t (by decide) (K ba ?_)
    intro c hc
    rw [h c hc, if_pos hc]
  | succ d ih =>
    intro i ba hi h
    rw [wX_number_154]
    have hb : i < 9 := by omega
    have hv := xw_in hb
    simp only [xw_cl hb]
    have hi0 := h i hb
    rw [if_neg (Nat.lt_irrefl i)] at hi0
    refine br_f (nI_ge (b := 9) hb (by decide)) ⟨hv, br_c (fun c => ?_) (fun c => ⟨hv, ?_⟩)⟩
    · have hn : ¬ pp_hd (pp_ti f) (pp_ti s) i = true := by
        intro z
        rw [if_pos z] at hi0
        rw [hi0] at c
        exact absurd c (by decide)
      refine nm_r (nI_1 i) ?_
      have k := ih (i + 1) ba (by omega) ?_
      · rw [pp_base_n hn] at k
        exact k
      · intro j hj
        rw [h j hj]
        by_cases z : pp_hd (pp_ti f) (pp_ti s) j = true
        · rw [if_pos z, if_pos z]
          have ne : j ≠ i := by intro z2; subst z2; exact hn z
          by_cases z2 : j < i
          · rw [if_pos z2, if_pos (by omega)]
          · rw [if_neg z2, if_neg (by omega)]
        · rw [if_neg z, if_neg z]
    · have hn : pp_hd (pp_ti f) (pp_ti s) i = true := by
        by_cases z : pp_hd (pp_ti f) (pp_ti s) i = true
        · exact z
        · rw [if_neg z] at hi0
          exact absurd hi0 c
      refine nm_e ⟨hv, ?_⟩
      have e : nI (pp_base (pp_ti f) (pp_ti s) i) + wo i = nI (pp_base (pp_ti f) (pp_ti s) (i + 1)) := by
        rw [hwo i hb, nI_add, pp_base_h hn]
      refine nm_r e (nm_r (nI_1 i) (ih (i + 1) _ (by omega) ?_))
      intro j hj
      by_cases z : j = i
      · subst z
        rw [pk_us, if_pos hn, if_pos (by omega)]
      · rw [pk_un z, h j hj]
        by_cases z3 : pp_hd (pp_ti f) (pp_ti s) j = true
        · rw [if_pos z3, if_pos z3]
          by_cases z2 : j < i
          · rw [if_pos z2, if_pos (by omega)]
          · rw [if_neg z2, if_neg (by omega)]
        · rw [if_neg z3, if_neg z3]
theorem xw_number {post : SX → Prop} {num pa op sz : Int32} {f s wo ba cnt li co : Nat → Int32} (hw : pp_wf (pp_ti f) (pp_ti s)) (hN : ¬ num = 0 → pp_Nb f s pa wo ba)
    (h : ∀ (num pa : Int32) (wo ba : Nat → Int32), ¬ num = 0 → pp_Nb f s pa wo ba → post (num, pa, op, sz, f, s, wo, ba, cnt, li, co)) : wpX_number post (num, pa, op, sz, f, s, wo, ba, cnt, li, co) := by
  unfold wpX_number
  refine br_c (fun c => ?_) (fun c => h _ _ _ _ c (hN c))
  have k : wX_number_11 post num pa op sz (9 + 1) (nI 9 + (-1)) f s wo ba cnt li co := by
    refine xw_n11 hw ?_ 9 wo ba (by omega) (fun c h1 h2 => absurd h2 (by omega))
    intro wo ba hwo hba
    have k83 : wX_number_83 post num pa op sz (9 + 1) (nI 0) f s wo (upd ba 0 0) cnt li co := by
      refine xw_n83 ?_ 9 0 _ (by omega) ?_
      · intro ba hba
        have k154 : wX_number_154 post num op sz (9 + 1) (nI 0) (nI (pp_base (pp_ti f) (pp_ti s) 0)) f s wo ba cnt li co := by
          refine xw_n154 hwo ?_ 9 0 ba (by omega) ?_
          · intro ba hba
            exact h _ _ _ _ xw_1 ⟨rfl, hwo, hba⟩
          · intro c hc
            rw [hba c hc, if_neg (Nat.not_lt_zero c)]
        exact ⟨_, k154⟩
      · intro c hc
        rw [pp_hU_0]
        by_cases z : c = 0
        · subst z
          rw [pk_us]
          rfl
        · rw [pk_un z, hba c hc, if_neg (by rw [decide_eq_true_eq]; exact z)]
    exact ⟨_, k83⟩
  rw [pk_m1] at k
  exact ⟨_, k⟩
end
section
/-! an array that holds a list from place k on -/
def pp_hl (a : Nat → Int32) : Nat → List Nat → Prop
  | _, [] => True
  | k, x :: t => a k = nI x ∧ pp_hl a (k + 1) t
theorem pp_hl_app {a : Nat → Int32} : ∀ (A B : List Nat) (k : Nat), pp_hl a k (A ++ B) ↔ pp_hl a k A ∧ pp_hl a (k + A.length) B := by
  intro A
  induction A with
  | nil =>
    intro B k
    exact ⟨fun h => ⟨True.intro, h⟩, fun h => h.2⟩
  | cons x A ih =>
    intro B k
    rw [List.cons_append, pp_hl, pp_hl, ih, List.length_cons, show k + 1 + A.length = k + (A.length + 1) by omega, and_assoc]
theorem pp_hl_upd {a : Nat → Int32} {j : Nat} {v : Int32} : ∀ (l : List Nat) (k : Nat), (j < k ∨ k + l.length ≤ j) → pp_hl a k l → pp_hl (upd a j v) k l := by
  intro l
  induction l with
  | nil => intro k _ _; exact True.intro
  | cons x l ih =>
    intro k h hl
    rw [pp_hl] at hl
    rw [List.length_cons] at h
    rw [pp_hl]
    exact ⟨by rw [pk_un (by omega)]; exact hl.1, ih (k + 1) (by omega) hl.2⟩
theorem pp_hl_snoc {a : Nat → Int32} {l : List Nat} {x k : Nat} (h : pp_hl a k l) : pp_hl (upd a (k + l.length) (nI x)) k (l ++ [x]) := by
  rw [pp_hl_app]
  exact ⟨pp_hl_upd l k (by omega) h, ⟨pk_us, True.intro⟩⟩
theorem pp_hl_at {a : Nat → Int32} : ∀ (l : List Nat) (k i x : Nat), pp_hl a k l → l[i]? = some x → a (k + i) = nI x := by
  intro l
  induction l with
  | nil => intro k i x _ h; cases h
  | cons y l ih =>
    intro k i x hl h
    rw [pp_hl] at hl
    cases i with
    | zero =>
      have e : y = x := Option.some.inj h
      subst e
      exact hl.1
    | succ i =>
      rw [show k + (i + 1) = k + 1 + i by omega]
      exact ih (k + 1) i x hl.2 h
/-! spread -/
theorem xw_s160 {post : SX → Prop} {J : Int32 → Int32 → Int32 → Int32 → Int32 → (Nat → Int32) → (Nat → Int32) → (Nat → Int32) → (Nat → Int32) → (Nat → Int32) → (Nat → Int32) → (Nat → Int32) → Prop} {num pa op : Int32} {f s wo ba cnt li co : Nat → Int32} {i : Nat} {x2 x3 x4 : Int32} (hi : i + 1 < 9)
    (h : J x2 x3 x4 (nI (i + 1)) (nI (i + 2)) f s wo ba cnt (upd li (i + 1) x2) co) : wX_spread_160 post J x2 x3 x4 (nI i) num pa op (nI (i + 1)) f s wo ba cnt li co := by
  unfold wX_spread_160
  simp only [xw_cl hi]
  exact ⟨xw_in hi, nm_e (nm_r (nI_1 (i + 1)) (nm_r (nI_1 i) h))⟩
theorem pp_W55 {F S : Nat → Int} (hw : pp_wf F S) {b : Nat} (hb : b < 9) : pp_W F S b ≤ 55 := by
  have h := (pp_W_le hw 9 b hb (by omega)).1
  have : ∀ b, b < 9 → pp_fb b ≤ 55 := by decide
  have := this b hb
  omega
theorem xw_s100 {post : SX → Prop} {J : Int32 → Int32 → Int32 → Int32 → Int32 → (Nat → Int32) → (Nat → Int32) → (Nat → Int32) → (Nat → Int32) → (Nat → Int32) → (Nat → Int32) → (Nat → Int32) → Prop} {num pa op : Int32} {f s wo ba cnt li co : Nat → Int32} (hw : pp_wf (pp_ti f) (pp_ti s)) {b i z rest : Nat} {q : List Nat} (hb : b < 9) (hib : i ≤ b)
    (hwo : ∀ c, c < 9 → wo c = nI (pp_W (pp_ti f) (pp_ti s) c)) (hz : z = pp_own (pp_ti f) (pp_ti s) b) (hq : (pp_LL (pp_ti f) (pp_ti s) b)[rest]? = some q)
    (h0 : q = [b] → J (nI b) (nI rest) 0 (nI (i + 1)) (nI (i + 1)) f s wo ba cnt li co)
    (h1 : ∀ (c r : Nat) (q' : List Nat), b < c → c < 9 → q = b :: q' → (pp_LL (pp_ti f) (pp_ti s) c)[r]? = some q' → J (nI c) (nI r) 1 (nI (i + 1)) (nI (i + 2)) f s wo ba cnt (upd li (i + 1) (nI c)) co) :
    wX_spread_100 post J (nI b) (nI rest) 1 (nI i) (nI z) num pa op (nI (i + 1)) f s wo ba cnt li co := by
  obtain ⟨w1, w2, w3, w4, _⟩ := hw b hb
  have hv := xw_in hb
  have hl : rest < pp_W (pp_ti f) (pp_ti s) b := pp_some_lt hq
  have h55 := pp_W55 hw hb
  have hW : pp_W (pp_ti f) (pp_ti s) b = pp_own (pp_ti f) (pp_ti s) b + (pp_wt (pp_ti f) (pp_ti s) b (f b).toInt + pp_wt (pp_ti f) (pp_ti s) b (s b).toInt) := pp_W_eq hw hb
  unfold wX_spread_100
  simp only [xw_cl hb]
  rcases pp_inv hw hb hq with ⟨g1, g2⟩ | ⟨g1, g2, g3, q', g4, g5⟩ | ⟨g1, g2, g3, q', g4, g5⟩
  · exact br_f (nI_ge (by omega) (by omega)) (nm_r (nI_1 i) (h0 g2))
  · refine br_t (nI_le (by omega) (by omega)) (nm_r (pk_sub (by omega)) ⟨hv, xw_waysTo hb w2 (fun c _ h => hwo c h) (br_f (nI_ge (by rw [hz]; exact g2) (by omega)) ⟨hv, ?_⟩)⟩)
    have ef : f b = nI (f b).toInt.toNat := xw_of (by unfold pp_ti at g3; omega)
    refine nm_r ef (xw_s160 (by unfold pp_ti at g3 w2; omega) (h1 _ _ q' (by unfold pp_ti at g3; omega) (by unfold pp_ti at w2; omega) g4 ?_))
    rw [hz]
    exact g5
  · refine br_t (nI_le (by omega) (by omega)) (nm_r (pk_sub (by omega)) ⟨hv, xw_waysTo hb w2 (fun c _ h => hwo c h) (br_t (nI_le (by rw [hz]; exact g2) (by omega)) (nm_r (pk_sub (by rw [hz]; exact g2)) ⟨hv, ?_⟩))⟩)
    have ef : s b = nI (s b).toInt.toNat := xw_of (by unfold pp_ti at g3; omega)
    refine nm_r ef (xw_s160 (by unfold pp_ti at g3 w4; omega) (h1 _ _ q' (by unfold pp_ti at g3; omega) (by unfold pp_ti at w4; omega) g4 ?_))
    rw [hz]
    exact g5
theorem xw_s75 {post : SX → Prop} {num pa op : Int32} {f s wo ba cnt co : Nat → Int32} (hw : pp_wf (pp_ti f) (pp_ti s)) (hwo : ∀ c, c < 9 → wo c = nI (pp_W (pp_ti f) (pp_ti s) c)) {p : List Nat}
    (K : ∀ li : Nat → Int32, pp_hl li 0 p → post (num, pa, op, nI p.length, f, s, wo, ba, cnt, li, co)) :
    ∀ (d b rest : Nat) (pre q : List Nat) (li : Nat → Int32), 8 - b ≤ d → b < 9 → pre.length ≤ b → p = pre ++ q → (pp_LL (pp_ti f) (pp_ti s) b)[rest]? = some q → pp_hl li 0 (pre ++ [b]) →
      wX_spread_75 post num pa op (d + 2) (nI b) (nI rest) 1 (nI pre.length) (nI (pre.length + 1)) f s wo ba cnt li co := by
  intro d
  induction d with
  | zero =>
    intro b rest pre q li hd hb hpb hp hq hl
    rw [wX_spread_75]
    have k0 : q = [b] → wX_spread_75 post num pa op 1 (nI b) (nI rest) 0 (nI (pre.length + 1)) (nI (pre.length + 1)) f s wo ba cnt li co := by
      intro e
      rw [wX_spread_75]
      have e2 : nI (pre.length + 1) = nI p.length := by rw [hp, e, List.length_append, List.length_singleton]
      have kk := K li (by rw [hp, e]; exact hl)
      rw [← e2] at kk
      exact br_c (fun _ => kk) (fun _ => br_t rfl kk)
    have k1 : ∀ (c r : Nat) (q' : List Nat), b < c → c < 9 → q = b :: q' → (pp_LL (pp_ti f) (pp_ti s) c)[r]? = some q' → wX_spread_75 post num pa op 1 (nI c) (nI r) 1 (nI (pre.length + 1)) (nI (pre.length + 2)) f s wo ba cnt (upd li (pre.length + 1) (nI c)) co := by
      intro c r q' h1 h2
      omega
    exact br_f (nI_ge (b := 9) (by omega) (by decide)) (br_f xw_1 (xw_isEnd hb (fun c => br_f xw_1 (xw_s100 (z := 1) hw hb hpb hwo (xw_own1 c) hq k0 k1)) (fun c => br_t rfl (xw_s100 (z := 0) hw hb hpb hwo (xw_own0 c) hq k0 k1))))
  | succ d ih =>
    intro b rest pre q li hd hb hpb hp hq hl
    rw [wX_spread_75]
    have k0 : q = [b] → wX_spread_75 post num pa op (d + 2) (nI b) (nI rest) 0 (nI (pre.length + 1)) (nI (pre.length + 1)) f s wo ba cnt li co := by
      intro e
      rw [wX_spread_75]
      have e2 : nI (pre.length + 1) = nI p.length := by rw [hp, e, List.length_append, List.length_singleton]
      have kk := K li (by rw [hp, e]; exact hl)
      rw [← e2] at kk
      exact br_c (fun _ => kk) (fun _ => br_t rfl kk)
    have k1 : ∀ (c r : Nat) (q' : List Nat), b < c → c < 9 → q = b :: q' → (pp_LL (pp_ti f) (pp_ti s) c)[r]? = some q' → wX_spread_75 post num pa op (d + 2) (nI c) (nI r) 1 (nI (pre.length + 1)) (nI (pre.length + 2)) f s wo ba cnt (upd li (pre.length + 1) (nI c)) co := by
      intro c r q' h1 h2 h3 h4
      have e : (pre ++ [b]).length = pre.length + 1 := by rw [List.length_append, List.length_singleton]
      have hl2 := pp_hl_snoc (x := c) hl
      rw [e, Nat.zero_add] at hl2
      have r := ih c r (pre ++ [b]) q' _ (by omega) h2 (by omega) (by rw [hp, h3, List.append_assoc]; rfl) h4 hl2
      rw [e] at r
      exact r
    exact br_f (nI_ge (b := 9) (by omega) (by decide)) (br_f xw_1 (xw_isEnd hb (fun c => br_f xw_1 (xw_s100 (z := 1) hw hb hpb hwo (xw_own1 c) hq k0 k1)) (fun c => br_t rfl (xw_s100 (z := 0) hw hb hpb hwo (xw_own0 c) hq k0 k1))))
theorem xw_s4 {post : SX → Prop} {num pa op sz : Int32} {f s wo ba cnt li co : Nat → Int32} (hw : pp_wf (pp_ti f) (pp_ti s)) (hwo : ∀ c, c < 9 → wo c = nI (pp_W (pp_ti f) (pp_ti s) c)) (hba : ∀ c, c < 9 → ba c = if pp_hd (pp_ti f) (pp_ti s) c = true then nI (pp_base (pp_ti f) (pp_ti s) c) else -4) {kn : Nat} (hkn : kn < 2 ^ 31)
    (K : ∀ h, h < 9 → pp_hd (pp_ti f) (pp_ti s) h = true → pp_base (pp_ti f) (pp_ti s) h ≤ kn → (∀ j, h < j → j < 9 → pp_hd (pp_ti f) (pp_ti s) j = true → kn < pp_base (pp_ti f) (pp_ti s) j) → ∃ n75, wX_spread_75 post num pa op n75 (nI h) (nI (kn - pp_base (pp_ti f) (pp_ti s) h)) 1 0 1 f s wo ba cnt (upd li 0 (nI h)) co) :
    ∀ (d k h : Nat), k + d = 9 → h < 9 → pp_hd (pp_ti f) (pp_ti s) h = true → pp_base (pp_ti f) (pp_ti s) h ≤ kn → (∀ j, h < j → j < k → pp_hd (pp_ti f) (pp_ti s) j = true → kn < pp_base (pp_ti f) (pp_ti s) j) → wX_spread_4 post (nI kn) num pa op sz f s wo ba cnt li co (d + 1) (nI h) (nI k) := by
  intro d
  induction d with
  | zero =>
    intro k h hk hh h1 h2 h3
    rw [wX_spread_4]
    have e : k = 9 := by omega
    subst e
    simp only [xw_cl hh]
    refine br_t (by decide) ⟨xw_in hh, ?_⟩
    have eb := hba h hh
    rw [if_pos h1] at eb
    rw [eb, pk_sub h2]
    exact nm_e (nm_e (K h hh h1 h2 h3))
  | succ d ih =>
    intro k h hk hh h1 h2 h3
    rw [wX_spread_4]
    have hb : k < 9 := by omega
    have hv := xw_in hb
    have eb := hba k hb
    have hl := pp_base_lt hw (k := k) (by omega)
    simp only [xw_cl hb]
    refine br_f (nI_ge (b := 9) hb (by decide)) ⟨hv, br_c (fun c => nm_r (nI_1 k) ?_) (fun c => ⟨hv, br_c (fun c2 => nm_r (nI_1 k) ?_) (fun c2 => ⟨hv, br_c (fun c3 => nm_r (nI_1 k) ?_) (fun c3 => nm_r (nI_1 k) ?_)⟩)⟩)⟩
    · refine ih (k + 1) h (by omega) hh h1 h2 ?_
      intro j l1 l2 hj
      by_cases z : j = k
      · subst z
        rw [if_pos hj] at eb
        rw [eb] at c
        have := congrArg Int32.toInt c
        rw [nI_toInt (by omega), show (-4 : Int32).toInt = -4 by decide] at this
        omega
      · exact h3 j l1 (by omega) hj
    · have w := (pp_W_le hw 9 k hb (by omega)).2
      have w2 := pp_W55 hw hb
      rw [hwo k hb] at c2
      exact absurd c2 (nI_nle w (by omega))
    · refine ih (k + 1) h (by omega) hh h1 h2 ?_
      intro j l1 l2 hj
      by_cases z : j = k
      · subst z
        rw [if_pos hj] at eb
        rw [eb, nI_ltI hkn (by omega)] at c3
        exact c3
      · exact h3 j l1 (by omega) hj
    · by_cases z : pp_hd (pp_ti f) (pp_ti s) k = true
      · rw [if_pos z] at eb
        rw [eb, nI_ltI hkn (by omega)] at c3
        exact ih (k + 1) k (by omega) hb z (by omega) (fun j l1 l2 => by omega)
      · rw [if_neg z] at eb
        exact absurd eb c
theorem xw_spread {post : SX → Prop} {num pa op sz : Int32} {f s wo ba cnt li co : Nat → Int32} (hw : pp_wf (pp_ti f) (pp_ti s)) (hN : pp_Nb f s pa wo ba) {k : Nat} {p : List Nat} (hp : (pp_PL (pp_ti f) (pp_ti s))[k]? = some p)
    (K : ∀ li : Nat → Int32, pp_hl li 0 p → post (num, pa, op, nI p.length, f, s, wo, ba, cnt, li, co)) : wpX_spread post (num, pa, op, sz, f, s, wo, ba, cnt, li, co) (nI k) := by
  unfold wpX_spread
  obtain ⟨_, hwo, hba⟩ := hN
  have hk : k < (pp_PL (pp_ti f) (pp_ti s)).length := pp_some_lt hp
  have h142 := pp_PL_len hw
  refine ⟨10, xw_s4 hw hwo hba (by omega) ?_ 9 0 0 (by omega) (by omega) (pp_hd_0 _ _) (by rw [pp_base_0]; omega) (fun j _ l => by omega)⟩
  intro h hh h1 h2 h3
  have l : k < pp_base (pp_ti f) (pp_ti s) (h + 1) := by
    refine pp_last h1 (8 - h) (fun j l1 l2 => h3 j l1 (by omega)) ?_
    rw [show h + 1 + (8 - h) = 9 by omega]
    exact hk
  have q := pp_hinv 9 h k p hh h1 h2 l hp
  exact ⟨_, xw_s75 hw hwo K 8 h (k - pp_base (pp_ti f) (pp_ti s) h) [] p _ (by omega) hh (Nat.zero_le _) rfl q ⟨pk_us, True.intro⟩⟩
/-! codeOf, inList, hasArc over a list in the array -/
theorem xw_c9 {post : Int32 → SX → Prop} {num pa op : Int32} {f s wo ba cnt li co : Nat → Int32} {m : Nat} (hm : m ≤ 9) : ∀ (t : List Nat) (k a : Nat), pp_hl li k t → k + t.length = m → post (nI (t.foldl pp_cf a)) (num, pa, op, nI m, f, s, wo, ba, cnt, li, co) → wX_codeOf_9 post num pa op (nI m) f s wo ba cnt li co (t.length + 1) (nI a) (nI k) := by
  intro t
  induction t with
  | nil =>
    intro k a _ hk h
    rw [List.length_nil, wX_codeOf_9]
    rw [List.length_nil] at hk
    exact br_t (nI_le (by omega) (by omega)) h
  | cons x t ih =>
    intro k a hl hk h
    rw [List.length_cons, wX_codeOf_9]
    rw [List.length_cons] at hk
    rw [pp_hl] at hl
    have hb : k < 9 := by omega
    simp only [xw_cl hb]
    rw [hl.1]
    have e : nI a * 10 + nI x + 1 = nI (pp_cf a x) := by
      show nI a * nI 10 + nI x + 1 = _
      rw [pk_mul, nI_add, nI_1]
      rfl
    exact br_f (nI_ge (by omega) (by omega)) ⟨xw_in hb, nm_r e (nm_r (nI_1 k) (ih (k + 1) (pp_cf a x) hl.2 (by omega) h))⟩
theorem xw_codeOf {post : Int32 → SX → Prop} {num pa op sz : Int32} {f s wo ba cnt li co : Nat → Int32} (hw : pp_wf (pp_ti f) (pp_ti s)) (hN : pp_Nb f s pa wo ba) {k : Nat} {p : List Nat} (hp : (pp_PL (pp_ti f) (pp_ti s))[k]? = some p)
    (K : ∀ (sz : Int32) (li : Nat → Int32), post (nI (pp_code p)) (num, pa, op, sz, f, s, wo, ba, cnt, li, co)) : wpX_codeOf post (num, pa, op, sz, f, s, wo, ba, cnt, li, co) (nI k) := by
  unfold wpX_codeOf
  refine xw_spread hw hN hp (fun li hl => ⟨_, xw_c9 (pp_srt_len (pp_PL_srt hw (List.mem_of_getElem? hp))) p 0 0 hl (Nat.zero_add _) (K _ li)⟩)
theorem xw_iL1 {post : Int32 → Prop} {num pa op : Int32} {f s wo ba cnt li co : Nat → Int32} {m : Nat} {v : Int32} (hm : m ≤ 9) (h : post 1) : ∀ (d k : Nat), k + d = m → wX_inList_4 post v num pa op (nI m) f s wo ba cnt li co (d + 1) 1 (nI k) := by
  intro d
  induction d with
  | zero =>
    intro k hk
    rw [wX_inList_4]
    exact br_t (nI_le (by omega) (by omega)) ⟨rfl, h⟩
  | succ d ih =>
    intro k hk
    rw [wX_inList_4]
    exact br_f (nI_ge (by omega) (by omega)) (br_f xw_1 (nm_r (nI_1 k) (ih (k + 1) (by omega))))
theorem xw_iL0 {post : Int32 → Prop} {num pa op : Int32} {f s wo ba cnt li co : Nat → Int32} {m b : Nat} (hm : m ≤ 9) (hb : b < 9) : ∀ (t : List Nat) (k : Nat), (∀ x, x ∈ t → x < 9) → pp_hl li k t → k + t.length = m → (b ∈ t → post 1) → (¬ b ∈ t → post 0) → wX_inList_4 post (nI b) num pa op (nI m) f s wo ba cnt li co (t.length + 1) 0 (nI k) := by
  intro t
  induction t with
  | nil =>
    intro k _ _ hk h1 h0
    rw [List.length_nil, wX_inList_4]
    rw [List.length_nil] at hk
    exact br_t (nI_le (by omega) (by omega)) ⟨rfl, h0 (fun z => by cases z)⟩
  | cons x t ih =>
    intro k h9 hl hk h1 h0
    rw [List.length_cons, wX_inList_4]
    rw [List.length_cons] at hk
    rw [pp_hl] at hl
    have hk9 : k < 9 := by omega
    have hx : x < 9 := h9 x List.mem_cons_self
    rw [xw_cl hk9, hl.1]
    refine br_f (nI_ge (by omega) (by omega)) (br_t rfl ⟨xw_in hk9, br_c (fun c => nm_r (nI_1 k) (xw_iL1 hm (h1 ?_) _ _ (by omega))) (fun c => nm_r (nI_1 k) (ih (k + 1) (fun y hy => h9 y (List.mem_cons_of_mem _ hy)) hl.2 (by omega) (fun z => h1 (List.mem_cons_of_mem _ z)) (fun z => h0 ?_)))⟩)
    · rw [nI_eq (by omega) (by omega)] at c
      subst c
      exact List.mem_cons_self
    · rw [nI_eq (by omega) (by omega)] at c
      intro z2
      rcases List.mem_cons.mp z2 with e | e
      · exact c e.symm
      · exact z e
theorem xw_inList {post : Int32 → Prop} {num pa op : Int32} {f s wo ba cnt li co : Nat → Int32} {b : Nat} {p : List Nat} (hp : pp_srt p) (hb : b < 9) (hl : pp_hl li 0 p) (h1 : b ∈ p → post 1) (h0 : ¬ b ∈ p → post 0) : wpX_inList post (num, pa, op, nI p.length, f, s, wo, ba, cnt, li, co) (nI b) := by
  unfold wpX_inList
  exact ⟨_, xw_iL0 (pp_srt_len hp) hb p 0 hp.2 hl (Nat.zero_add _) h1 h0⟩
def pp_adj (v w : Int32) : List Nat → Bool
  | x :: y :: t => decide (nI x = v ∧ nI y = w) || pp_adj v w (y :: t)
  | _ => false
theorem pp_adj1 (v w : Int32) (x : Nat) : pp_adj v w [x] = false := rfl
theorem pp_adj2 (v w : Int32) (x y : Nat) (t : List Nat) : pp_adj v w (x :: y :: t) = (decide (nI x = v ∧ nI y = w) || pp_adj v w (y :: t)) := rfl
theorem xw_hA1 {post : Int32 → Prop} {num pa op : Int32} {f s wo ba cnt li co : Nat → Int32} {m : Nat} {v w : Int32} (hm : m ≤ 9) (h : post 1) : ∀ (d k : Nat), k + d = m → wX_hasArc_5 post v w num pa op (nI m) f s wo ba cnt li co (d + 1) 1 (nI k) := by
  intro d
  induction d with
  | zero =>
    intro k hk
    rw [wX_hasArc_5]
    exact br_t (nI_le (by omega) (by omega)) ⟨rfl, h⟩
  | succ d ih =>
    intro k hk
    rw [wX_hasArc_5]
    exact br_f (nI_ge (by omega) (by omega)) (br_f xw_1 (nm_r (nI_1 k) (ih (k + 1) (by omega))))
theorem xw_hA0 {post : Int32 → Prop} {num pa op : Int32} {f s wo ba cnt li co : Nat → Int32} {m : Nat} {v w : Int32} (hm : m ≤ 9) : ∀ (t : List Nat) (x k : Nat), pp_hl li k (x :: t) → k + 1 + t.length = m → (pp_adj v w (x :: t) = true → post 1) → (¬ pp_adj v w (x :: t) = true → post 0) → wX_hasArc_5 post v w num pa op (nI m) f s wo ba cnt li co (t.length + 1) 0 (nI (k + 1)) := by
  intro t
  induction t with
  | nil =>
    intro x k _ hk h1 h0
    rw [List.length_nil, wX_hasArc_5]
    rw [List.length_nil] at hk
    exact br_t (nI_le (by omega) (by omega)) ⟨rfl, h0 (by rw [pp_adj1]; decide)⟩
  | cons y t ih =>
    intro x k hl hk h1 h0
    rw [List.length_cons, wX_hasArc_5]
    rw [List.length_cons] at hk
    rw [pp_hl] at hl
    have hk9 : k < 9 := by omega
    have hk1 : k + 1 < 9 := by omega
    have hy := hl.2
    rw [pp_hl] at hy
    rw [pp_adj2] at h1 h0
    rw [nI_pred, xw_cl hk9, xw_cl hk1, hl.1, hy.1]
    have rec0 : ¬ (nI x = v ∧ nI y = w) → wX_hasArc_5 post v w num pa op (nI m) f s wo ba cnt li co (t.length + 1) 0 (nI (k + 1 + 1)) := by
      intro ne
      refine ih y (k + 1) hl.2 (by omega) (fun z => h1 ?_) (fun z => h0 ?_)
      · rw [z, Bool.or_true]
      · rw [decide_eq_false ne, Bool.false_or]
        exact z
    refine br_f (nI_ge (by omega) (by omega)) (br_t rfl ⟨xw_in hk9, br_c (fun c => ⟨xw_in hk1, br_c (fun c2 => nm_r (nI_1 (k + 1)) (xw_hA1 hm (h1 ?_) _ _ (by omega))) (fun c2 => nm_r (nI_1 (k + 1)) (rec0 (fun z => c2 z.2)))⟩) (fun c => nm_r (nI_1 (k + 1)) (rec0 (fun z => c z.1)))⟩)
    rw [decide_eq_true ⟨c, c2⟩, Bool.true_or]
theorem xw_hasArc {post : Int32 → Prop} {num pa op : Int32} {f s wo ba cnt li co : Nat → Int32} {v w : Int32} {p : List Nat} (hp : pp_srt p) (hne : p ≠ []) (hl : pp_hl li 0 p) (h1 : pp_adj v w p = true → post 1) (h0 : ¬ pp_adj v w p = true → post 0) : wpX_hasArc post (num, pa, op, nI p.length, f, s, wo, ba, cnt, li, co) v w := by
  unfold wpX_hasArc
  cases p with
  | nil => exact absurd rfl hne
  | cons x t =>
    have hm := pp_srt_len hp
    exact ⟨_, xw_hA0 hm t x 0 hl (by rw [List.length_cons]; omega) h1 h0⟩
end
section
/-! X's numberOf -/
theorem pp_dl_val {v : Nat} : ∀ (e a : Nat), (∀ d, d ∈ pp_dl v e → 1 ≤ d) → ((pp_dl v e).map (fun d => d - 1)).foldl pp_cf a = a * 10 ^ e + v % 10 ^ e := by
  intro e
  induction e with
  | zero =>
    intro a _
    rw [pp_dl, List.map_nil, List.foldl_nil, Nat.pow_zero, Nat.mod_one, Nat.mul_one, Nat.add_zero]
  | succ e ih =>
    intro a h
    rw [pp_dl] at h
    have hd := h _ List.mem_cons_self
    rw [pp_dl, List.map_cons, List.foldl_cons, ih _ (fun d hd => h d (List.mem_cons_of_mem _ hd)), Nat.mod_pow_succ]
    generalize v / 10 ^ e % 10 = d at hd
    have e1 : pp_cf a (d - 1) = a * 10 + d := by unfold pp_cf; omega
    rw [e1, Nat.pow_succ, Nat.add_mul, Nat.mul_comm (10 ^ e) d, Nat.mul_assoc, Nat.mul_comm 10 (10 ^ e)]
    omega
theorem pp_nOf_d {F S : Nat → Int} : ∀ (ds : List Nat) (b j : Nat), pp_nOf F S b ds = some j → ∀ d, d ∈ ds → 1 ≤ d := by
  intro ds
  induction ds with
  | nil => intro b j _ d hd; cases hd
  | cons x t ih =>
    intro b j h d hd
    rw [pp_nOf] at h
    by_cases c : b + 1 < x ∧ (F b = (x : Int) - 1 ∨ S b = (x : Int) - 1)
    · rw [if_pos c] at h
      cases e : pp_nOf F S (x - 1) t with
      | none => rw [e] at h; cases h
      | some i =>
        rcases List.mem_cons.mp hd with z | z
        · omega
        · exact ih _ _ e d z
    · rw [if_neg c] at h; cases h
theorem xw_dig : ∀ d, d < 10 → (nI d - 1).toInt = (d : Int) - 1 := by decide +kernel
theorem xw_10 : ¬ (10 : Int32) = 0 := by decide
theorem xw_div {a : Nat} (ha : a < 2 ^ 31) : nI a / 10 = nI (a / 10) := pk_div (d := 10) ha (by decide) (by decide)
theorem xw_rem {a : Nat} (ha : a < 2 ^ 31) : nI a - nI a / 10 * 10 = nI (a % 10) := pk_rem (d := 10) ha (by decide) (by decide)
theorem xw_p9 {e : Nat} (h : e ≤ 9) : 10 ^ e < 2 ^ 31 := by
  have : 10 ^ e ≤ 10 ^ 9 := Nat.pow_le_pow_right (by decide) h
  have e9 : (10 : Nat) ^ 9 = 1000000000 := by decide
  omega
theorem xw_o129 {post : Int32 → Prop} {J : Int32 → Int32 → Int32 → Prop} {num pa op sz : Int32} {f s wo ba cnt li co : Nat → Int32} {b e number : Nat} {x1 x6 : Int32} (hb : b < 9) (hf : (f b).toInt ≤ 8) (he : e ≤ 9) (hwo : ∀ c, c < 9 → wo c = nI (pp_W (pp_ti f) (pp_ti s) c))
    (h : J x6 (nI (number + pp_add (pp_ti f) (pp_ti s) b x6.toInt)) (nI (10 ^ e / 10))) : wX_numberOf_129 post J x1 (nI b) (nI number) (nI (10 ^ e)) x6 num pa op sz f s wo ba cnt li co := by
  unfold wX_numberOf_129
  exact xw_added hb hf (fun c _ h => hwo c h) (nm_r (nI_add _ _) ⟨xw_10, nm_r (xw_div (xw_p9 he)) h⟩)
theorem xw_o82 {post : Int32 → Prop} {num pa op sz : Int32} {f s wo ba cnt li co : Nat → Int32} (hw : pp_wf (pp_ti f) (pp_ti s)) (hwo : ∀ c, c < 9 → wo c = nI (pp_W (pp_ti f) (pp_ti s) c)) {v : Nat} (hv : v < 2 ^ 31) :
    ∀ (e b number : Nat), e ≤ 9 → b < 9 → (∀ j, pp_nOf (pp_ti f) (pp_ti s) b (pp_dl v e) = some j → post (nI (number + j))) → (pp_nOf (pp_ti f) (pp_ti s) b (pp_dl v e) = none → post (-4)) → wX_numberOf_82 post (nI v) num pa op sz f s wo ba cnt li co (e + 1) (nI b) (nI number) (nI (10 ^ e / 10)) := by
  intro e
  induction e with
  | zero =>
    intro b number he hb h1 h0
    rw [wX_numberOf_82]
    rw [pp_dl, pp_nOf] at h1 h0
    refine br_t (by decide) (xw_isEnd hb (fun c => br_f xw_1 ?_) (fun c => br_t rfl ?_))
    · rw [if_pos c] at h1
      exact h1 0 rfl
    · rw [if_neg c] at h0
      exact h0 rfl
  | succ e ih =>
    intro b number he hb h1 h0
    obtain ⟨w1, w2, w3, w4, _⟩ := hw b hb
    unfold pp_ti at w1 w2 w3 w4
    have hp : 0 < 10 ^ e := Nat.pow_pos (by decide)
    have hp31 : 10 ^ e < 2 ^ 31 := xw_p9 (by omega)
    have e5 : 10 ^ (e + 1) / 10 = 10 ^ e := by rw [Nat.pow_succ, Nat.mul_div_cancel _ (by decide)]
    have hv2 : v / 10 ^ e < 2 ^ 31 := Nat.lt_of_le_of_lt (Nat.div_le_self _ _) hv
    rw [e5, wX_numberOf_82]
    dsimp only
    rw [pp_dl, pp_nOf] at h1 h0
    have ed : nI v / nI (10 ^ e) = nI (v / 10 ^ e) := pk_div hv hp hp31
    rw [ed, xw_rem hv2]
    have hd : v / 10 ^ e % 10 < 10 := Nat.mod_lt _ (by decide)
    generalize v / 10 ^ e % 10 = d at h1 h0 hd
    have t6 := xw_dig d hd
    simp only [xw_cl hb]
    have hv9 := xw_in hb
    have go : b + 1 < d ∧ ((f b).toInt = (d : Int) - 1 ∨ (s b).toInt = (d : Int) - 1) → wX_numberOf_129 post (wX_numberOf_82 post (nI v) num pa op sz f s wo ba cnt li co (e + 1)) (nI v) (nI b) (nI number) (nI (10 ^ e)) (nI d - 1) num pa op sz f s wo ba cnt li co := by
      intro c
      have c' : b + 1 < d ∧ (pp_ti f b = (d : Int) - 1 ∨ pp_ti s b = (d : Int) - 1) := c
      rw [if_pos c'] at h1 h0
      have e6 : nI d - 1 = nI (d - 1) := by
        obtain ⟨k, rfl⟩ : ∃ k, d = k + 1 := ⟨d - 1, by omega⟩
        exact nI_pred k
      refine xw_o129 hb w2 (by omega) hwo ?_
      rw [t6, e6]
      refine ih (d - 1) _ (by omega) (by omega) ?_ ?_
      · intro j hj
        rw [Nat.add_assoc]
        refine h1 _ ?_
        rw [hj]
        rfl
      · intro hj
        refine h0 ?_
        rw [hj]
        rfl
    refine br_f (nI_nle hp hp31) ⟨nI_ne0 hp hp31, xw_10, nm_e (br_c (fun c => h0 (if_neg ?_)) (fun c => ⟨hv9, br_c (fun c2 => go ⟨?_, Or.inl ?_⟩) (fun c2 => ⟨hv9, br_c (fun c3 => go ⟨?_, Or.inr ?_⟩) (fun c3 => h0 (if_neg ?_))⟩)⟩))⟩
    · rw [Int32.le_iff_toInt_le, t6, xw_nIt hb] at c
      intro z
      omega
    · rw [Int32.le_iff_toInt_le, t6, xw_nIt hb] at c
      omega
    · rw [← c2, t6]
    · rw [Int32.le_iff_toInt_le, t6, xw_nIt hb] at c
      omega
    · rw [← c3, t6]
    · intro z
      rcases z.2 with z | z
      · exact c2 (Int32.toInt_inj.mp (t6.trans z.symm))
      · exact c3 (Int32.toInt_inj.mp (t6.trans z.symm))
theorem xw_o12 {post : Int32 → Prop} {num pa op sz : Int32} {f s wo ba cnt li co : Nat → Int32} {v : Nat} (hv : v < 2 ^ 31)
    (K : ∀ e, e ≤ 9 → 10 ^ e ≤ v → v < 10 ^ (e + 1) → wX_numberOf_37 post (nI v) (nI (10 ^ e)) num pa op sz f s wo ba cnt li co) : ∀ (d i : Nat), i + d = 9 → 10 ^ i ≤ v → wX_numberOf_12 post (nI v) num pa op sz f s wo ba cnt li co (d + 1) (nI (10 ^ i)) (nI i) := by
  intro d
  induction d with
  | zero =>
    intro i hi h
    have e : i = 9 := by omega
    subst e
    rw [wX_numberOf_12]
    have e10 : (10 : Nat) ^ (9 + 1) = 10000000000 := by decide
    exact br_t (by decide) (K 9 (Nat.le_refl _) h (by rw [e10]; omega))
  | succ d ih =>
    intro i hi h
    rw [wX_numberOf_12, xw_div hv]
    have hv2 : v / 10 < 2 ^ 31 := Nat.lt_of_le_of_lt (Nat.div_le_self _ _) hv
    have ep : 10 ^ (i + 1) = 10 ^ i * 10 := Nat.pow_succ _ _
    refine br_f (nI_ge (b := 9) (by omega) (by decide)) ⟨xw_10, br_c (fun c => K i (by omega) h ?_) (fun c => nm_r (e' := nI (10 ^ (i + 1))) ?_ (nm_r (nI_1 i) (ih (i + 1) (by omega) ?_)))⟩
    · rw [nI_ltI hv2 (by omega)] at c
      omega
    · rw [ep]
      exact pk_mul _ 10
    · rw [nI_ltI hv2 (by omega)] at c
      omega
theorem xw_numberOf {post : Int32 → Prop} {num pa op sz : Int32} {f s wo ba cnt li co : Nat → Int32} (hw : pp_wf (pp_ti f) (pp_ti s)) (hN : pp_Nb f s pa wo ba) {v1 : Int32} (h1 : ∀ (j : Nat) (p : List Nat), (pp_PL (pp_ti f) (pp_ti s))[j]? = some p → nI (pp_code p) = v1 → post (nI j))
    (h0 : (∀ p, p ∈ pp_PL (pp_ti f) (pp_ti s) → ¬ nI (pp_code p) = v1) → post (-4)) : wpX_numberOf post (num, pa, op, sz, f, s, wo, ba, cnt, li, co) v1 := by
  obtain ⟨_, hwo, hba⟩ := hN
  unfold wpX_numberOf
  have pos : ∀ p, p ∈ pp_PL (pp_ti f) (pp_ti s) → 1 ≤ pp_code p ∧ pp_code p < 2 ^ 31 := by
    intro p hp
    have hs := pp_PL_srt hw hp
    refine ⟨?_, pp_code_31 hs⟩
    obtain ⟨b, t, rfl, _⟩ := (pp_PL_in hw).mp hp
    have := pp_code_ge hs.2
    have l : 0 < 10 ^ t.length := Nat.pow_pos (by decide)
    omega
  refine br_c (fun c => ?_) (fun c => h0 ?_)
  · obtain ⟨v, hv, rfl⟩ := nI_of (x := v1) (by
      intro z
      rw [xw_lt0] at z
      rw [Int32.le_iff_toInt_le, show (1 : Int32).toInt = 1 by decide] at c
      omega)
    have hv1 : 1 ≤ v := by
      have c' : nI 1 ≤ nI v := c
      rw [nI_leI (by decide) hv] at c'
      exact c'
    have key : ∀ e, 10 ^ e ≤ v → v < 10 ^ (e + 1) → ∀ p, p ∈ pp_PL (pp_ti f) (pp_ti s) → nI (pp_code p) = nI v → ∃ t, p = (v / 10 ^ e - 1) :: t ∧ pp_hd (pp_ti f) (pp_ti s) (v / 10 ^ e - 1) = true ∧ pp_ok (pp_ti f) (pp_ti s) (v / 10 ^ e - 1) t = true ∧ pp_dl v e = t.map (fun x => x + 1) := by
      intro e l u p hp hc
      have hs := pp_PL_srt hw hp
      rw [nI_eq (pos p hp).2 hv] at hc
      obtain ⟨b, t, rfl, hb, hh, hk⟩ := (pp_PL_in hw).mp hp
      have g1 := pp_code_ge hs.2
      have g2 := pp_code_hi hs.2
      have g3 := pp_code_lo hs.2
      have g4 := pp_code_dl hs.2
      rw [List.length_cons] at g2 g4
      rw [hc] at g1 g2 g3 g4
      have el : t.length = e := Nat.le_antisymm (pp_pow_len g1 u) (pp_pow_len l g2)
      rw [el] at g3 g4
      have eb : v / 10 ^ e - 1 = b := by omega
      rw [eb]
      rw [pp_dl, List.map_cons] at g4
      exact ⟨t, rfl, hh, hk, (List.cons.inj g4).2⟩
    refine ⟨10, xw_o12 hv ?_ 9 0 (by omega) hv1⟩
    intro e he l u
    have hp : 0 < 10 ^ e := Nat.pow_pos (by decide)
    have hp31 : 10 ^ e < 2 ^ 31 := xw_p9 he
    have key := key e l u
    have d1 : 1 ≤ v / 10 ^ e := (Nat.le_div_iff_mul_le hp).mpr (by omega)
    have d9 : v / 10 ^ e < 10 := (Nat.div_lt_iff_lt_mul hp).mpr (by rw [Nat.pow_succ] at u; rw [Nat.mul_comm]; exact u)
    have evm : v % 10 ^ e + 10 ^ e * (v / 10 ^ e) = v := Nat.mod_add_div v (10 ^ e)
    unfold wX_numberOf_37
    rw [pk_div hv hp hp31, xw_rem (by omega), Nat.mod_eq_of_lt d9, xw_div hp31]
    generalize hq : v / 10 ^ e = q at key d1 d9 evm
    obtain ⟨b, rfl⟩ : ∃ b, q = b + 1 := ⟨q - 1, by omega⟩
    rw [nI_pred]
    rw [Nat.add_sub_cancel] at key
    have hb : b < 9 := by omega
    have hb0 := hba b hb
    refine ⟨nI_ne0 hp hp31, xw_10, nm_e (xw_bad (fun _ _ => br_t rfl ⟨xw_in hb, ?_⟩) (fun g => ?_))⟩
    · simp only [xw_cl hb]
      refine br_c (fun c2 => h0 ?_) (fun c2 => ⟨xw_in hb, ?_⟩)
      · intro p hp hc
        obtain ⟨t, _, hh, _⟩ := key p hp hc
        rw [if_pos hh] at hb0
        rw [hb0] at c2
        have hl := pp_base_lt hw (k := b) (by omega)
        have := congrArg Int32.toInt c2
        rw [nI_toInt (by omega), show (-4 : Int32).toInt = -4 by decide] at this
        omega
      · have hh : pp_hd (pp_ti f) (pp_ti s) b = true := by
          by_cases z : pp_hd (pp_ti f) (pp_ti s) b = true
          · exact z
          · rw [if_neg z] at hb0
            exact absurd hb0 c2
        rw [if_pos hh] at hb0
        refine nm_r hb0 ⟨xw_10, nm_e ⟨_, xw_o82 hw hwo hv e b _ he hb ?_ ?_⟩⟩
        · intro j hj
          have a1 := pp_nOf_s hw _ b j hb hj
          have a2 := pp_hpos 9 b j _ hb hh a1
          refine h1 _ _ a2 ?_
          have a3 := pp_dl_val (v := v) e (pp_cf 0 b) (pp_nOf_d _ b j hj)
          have a4 : pp_code (b :: (pp_dl v e).map (fun d => d - 1)) = pp_cf 0 b * 10 ^ e + v % 10 ^ e := a3
          rw [a4]
          have a5 : pp_cf 0 b = b + 1 := by unfold pp_cf; omega
          rw [a5, Nat.mul_comm]
          exact congrArg nI (by omega)
        · intro hj
          refine h0 ?_
          intro p hp hc
          obtain ⟨t, _, _, hk, ht⟩ := key p hp hc
          rw [ht] at hj
          exact pp_nOf_n t b hj hk
    · rw [xw_nIt hb] at g
      omega
  · intro p hp e
    have ⟨g1, g2⟩ := pos p hp
    rw [← e] at c
    exact c (nI_le (a := 1) g1 g2)
end
section
/-! Y's small methods -/
def pp_b (x : Bool) : Int32 := if x = true then 1 else 0
theorem pp_b1 {x : Bool} (h : x = true) : pp_b x = 1 := if_pos h
theorem pp_b0 {x : Bool} (h : ¬ x = true) : pp_b x = 0 := if_neg h
theorem yw_lt8 {x : Int32} : 8 < x ↔ 8 < x.toInt := by rw [Int32.lt_iff_toInt_lt, xw_z8]
theorem yw_isBlock {post : Int32 → Prop} {un : Int32} {f s cs : Nat → Int32} {x : Int32} (h1 : 0 ≤ x.toInt → x.toInt < 9 → post 1) (h0 : ¬ (0 ≤ x.toInt ∧ x.toInt < 9) → post 0) : wpY_isBlock post (un, f, s, cs) x := by
  unfold wpY_isBlock
  refine br_c (fun h => h0 ?_) (fun h => br_c (fun g => h0 ?_) (fun g => h1 ?_ ?_))
  · rw [xw_lt0] at h; omega
  · rw [yw_lt8] at g; omega
  · rw [xw_lt0] at h; omega
  · rw [yw_lt8] at g; omega
theorem yw_succ {post : Int32 → Prop} {un : Int32} {f s cs : Nat → Int32} {b : Nat} (hb : b < 9) (h0 : (f b).toInt < 0 → post 0) (h1 : 0 ≤ (f b).toInt → (s b).toInt < 0 → post 1) (h2 : 0 ≤ (f b).toInt → 0 ≤ (s b).toInt → post 2) : wpY_successorsOf post (un, f, s, cs) (nI b) := by
  unfold wpY_successorsOf
  simp only [xw_cl hb]
  have hi := xw_in hb
  refine ⟨hi, br_c (fun c => ⟨hi, br_c (fun d => h2 (xw_0le.mp c) (xw_0le.mp d)) (fun d => h1 (xw_0le.mp c) ?_)⟩) (fun c => h0 ?_)⟩
  · rw [xw_0le] at d; omega
  · rw [xw_0le] at c; omega
theorem yw_back19 {post : Int32 → Prop} {un : Int32} {f s cs : Nat → Int32} {b : Nat} (hb : b < 9) (h1 : 0 ≤ (s b).toInt → (s b).toInt ≤ (b : Int) → post 1) (h0 : ¬ (0 ≤ (s b).toInt ∧ (s b).toInt ≤ (b : Int)) → post 0) : wY_isBackFrom_19 post (nI b) un f s cs := by
  unfold wY_isBackFrom_19
  simp only [xw_cl hb]
  have hi := xw_in hb
  refine ⟨hi, br_c (fun c => h0 ?_) (fun c => ⟨hi, br_c (fun d => h0 ?_) (fun d => h1 ?_ ?_)⟩)⟩
  · rw [xw_lt0] at c; omega
  · rw [Int32.lt_iff_toInt_lt, xw_nIt hb] at d; omega
  · rw [xw_lt0] at c; omega
  · rw [Int32.lt_iff_toInt_lt, xw_nIt hb] at d; omega
theorem yw_backFrom {post : Int32 → Prop} {un : Int32} {f s cs : Nat → Int32} {b : Nat} (hb : b < 9) (h1 : (0 ≤ (f b).toInt ∧ (f b).toInt ≤ (b : Int)) ∨ (0 ≤ (s b).toInt ∧ (s b).toInt ≤ (b : Int)) → post 1) (h0 : ¬ ((0 ≤ (f b).toInt ∧ (f b).toInt ≤ (b : Int)) ∨ (0 ≤ (s b).toInt ∧ (s b).toInt ≤ (b : Int))) → post 0) : wpY_isBackFrom post (un, f, s, cs) (nI b) := by
  unfold wpY_isBackFrom
  simp only [xw_cl hb]
  have hi := xw_in hb
  refine ⟨hi, br_c (fun c => yw_back19 hb (fun g1 g2 => h1 ?_) (fun g => h0 ?_)) (fun c => ⟨hi, br_c (fun d => h1 ?_) (fun d => yw_back19 hb (fun g1 g2 => h1 ?_) (fun g => h0 ?_))⟩)⟩
  · omega
  · rw [xw_lt0] at c; omega
  · rw [xw_lt0] at c
    rw [Int32.le_iff_toInt_le, xw_nIt hb] at d
    omega
  · omega
  · rw [xw_lt0] at c
    rw [Int32.le_iff_toInt_le, xw_nIt hb] at d
    omega
theorem yw_eqI {x : Int32} {b : Nat} (hb : b < 9) : x = nI b ↔ x.toInt = (b : Int) := by rw [← Int32.toInt_inj, xw_nIt hb]
theorem yw_h2 {post : Int32 → Prop} {un : Int32} {f s cs : Nat → Int32} {b : Nat} (hb : b < 9) (h1 : pp_hd (pp_ti f) (pp_ti s) b = true → post 1) (h0 : ¬ pp_hd (pp_ti f) (pp_ti s) b = true → post 0) :
    ∀ (d a : Nat), a + d = 9 → b ≤ a → (∀ j, b ≤ j → j < a → ¬ ((f j).toInt = (b : Int) ∨ (s j).toInt = (b : Int))) → wY_isHead_2 post (nI b) un f s cs (d + 1) (nI a) := by
  intro d
  induction d with
  | zero =>
    intro a ha hba h
    have e : a = 9 := by omega
    subst e
    rw [wY_isHead_2]
    refine br_t (by decide) (br_c (fun c => h1 ?_) (fun c => h0 ?_))
    · rw [← nI_0, nI_eq (by omega) (by omega)] at c
      exact pp_hd_iff.mpr (Or.inl c)
    · intro z
      rcases pp_hd_iff.mp z with z | ⟨j, z1, z2, z3⟩
      · exact c (by rw [z]; rfl)
      · exact h j z2 z1 z3
  | succ d ih =>
    intro a ha hba h
    have h9 : a < 9 := by omega
    rw [wY_isHead_2]
    simp only [xw_cl h9]
    have hi := xw_in h9
    refine br_f (nI_ge (b := 9) h9 (by decide)) ⟨hi, br_c (fun c => h1 ?_) (fun c => ⟨hi, br_c (fun c2 => h1 ?_) (fun c2 => nm_r (nI_1 a) (ih (a + 1) (by omega) (by omega) ?_))⟩)⟩
    · rw [yw_eqI hb] at c
      exact pp_hd_iff.mpr (Or.inr ⟨a, h9, hba, Or.inl c⟩)
    · rw [yw_eqI hb] at c2
      exact pp_hd_iff.mpr (Or.inr ⟨a, h9, hba, Or.inr c2⟩)
    · intro j l1 l2
      by_cases z : j = a
      · subst z
        rw [yw_eqI hb] at c c2
        intro z2
        rcases z2 with z2 | z2
        · exact c z2
        · exact c2 z2
      · exact h j l1 (by omega)
theorem yw_isHead {post : Int32 → Prop} {un : Int32} {f s cs : Nat → Int32} {b : Nat} (hb : b < 9) (h1 : pp_hd (pp_ti f) (pp_ti s) b = true → post 1) (h0 : ¬ pp_hd (pp_ti f) (pp_ti s) b = true → post 0) : wpY_isHead post (un, f, s, cs) (nI b) := by
  unfold wpY_isHead
  exact ⟨_, yw_h2 hb h1 h0 (9 - b) b (by omega) (Nat.le_refl _) (fun j l1 l2 => by omega)⟩
theorem yw_bit {n b : Nat} (hn : n < 512) (hb : b < 9) : (nI n >>> (nI b &&& 31)) &&& 1 = pp_b (n.testBit b) := by
  rw [pk_shrN (by omega) _ b (s_l b (by omega)), pk_andN (m := 1) (Nat.lt_of_le_of_lt (Nat.div_le_self n (2 ^ b)) (by omega)) 1 (by decide)]
  rw [Nat.testBit_eq_decide_div_mod_eq]
  generalize n / 2 ^ b = m
  have : m % 2 ^ 1 = 0 ∨ m % 2 ^ 1 = 1 := by omega
  rcases this with z | z
  · rw [z, pp_b0 (by rw [decide_eq_true_eq]; omega)]
    rfl
  · rw [z]
    decide
theorem yw_bit1 {n b : Nat} (hn : n < 512) (hb : b < 9) : (nI n >>> (nI b &&& 31)) &&& 1 = 1 ↔ n.testBit b = true := by
  rw [yw_bit hn hb]
  by_cases c : n.testBit b = true
  · rw [pp_b1 c]
    exact ⟨fun _ => c, fun _ => rfl⟩
  · rw [pp_b0 c]
    exact ⟨fun z => absurd z (by decide), fun z => absurd z c⟩
/-- the bits of n from b on -/
def pp_bt (n b d : Nat) : List Nat := (List.range' b d).filter (fun j => n.testBit j)
theorem pp_bt0 (n b : Nat) : pp_bt n b 0 = [] := rfl
theorem pp_btt {n b : Nat} (d : Nat) (h : n.testBit b = true) : pp_bt n b (d + 1) = b :: pp_bt n (b + 1) d := by
  unfold pp_bt
  rw [List.range'_succ, List.filter_cons_of_pos h]
theorem pp_btf {n b : Nat} (d : Nat) (h : ¬ n.testBit b = true) : pp_bt n b (d + 1) = pp_bt n (b + 1) d := by
  unfold pp_bt
  rw [List.range'_succ, List.filter_cons_of_neg h]
theorem pp_bt9 (n : Nat) : pp_bt n 0 9 = pp_bits n := by
  unfold pp_bt pp_bits
  rw [List.range_eq_range']
theorem yw_pEnd {post : Int32 → Prop} {un : Int32} {f s cs : Nat → Int32} {q : Nat} (hq : q < 9) (h : post (pp_b (pp_en (pp_ti f) (pp_ti s) q))) : wpY_successorsOf (fun r_3 => ((r_3 = 0 → post 1) ∧ (¬ r_3 = 0 → wpY_isBackFrom (fun r_9 => ((r_9 = 0 → post 0) ∧ (¬ r_9 = 0 → post 1))) (un, f, s, cs) (nI q)))) (un, f, s, cs) (nI q) := by
  have k1 : pp_en (pp_ti f) (pp_ti s) q = true → post 1 := fun c => by rw [pp_b1 c] at h; exact h
  have k0 : ¬ pp_en (pp_ti f) (pp_ti s) q = true → post 0 := fun c => by rw [pp_b0 c] at h; exact h
  have kb : 0 ≤ (f q).toInt → wpY_isBackFrom (fun r_9 => ((r_9 = 0 → post 0) ∧ (¬ r_9 = 0 → post 1))) (un, f, s, cs) (nI q) := by
    intro g
    refine yw_backFrom hq (fun c => br_f xw_1 (k1 (xw_en.mpr ?_))) (fun c => br_t rfl (k0 ?_))
    · omega
    · rw [xw_en]
      omega
  exact yw_succ hq (fun c => br_t rfl (k1 (xw_en.mpr (by omega)))) (fun c _ => br_f xw_1 (kb c)) (fun c _ => br_f (by decide) (kb c))
theorem yw_p4 {post : Int32 → Prop} {un : Int32} {f s cs : Nat → Int32} {n : Nat} (hn : n < 512) : ∀ (d b q : Nat), b + d = 9 → q < b → post (pp_b (pp_ok (pp_ti f) (pp_ti s) q (pp_bt n b d))) → wY_isPath_4 post (nI n) un f s cs (d + 1) (nI q) (nI b) := by
  intro d
  induction d with
  | zero =>
    intro b q hb hq h
    have e : b = 9 := by omega
    subst e
    rw [wY_isPath_4]
    rw [pp_bt0, pp_ok] at h
    exact br_t (by decide) (br_f (nI_pos (by omega)) (yw_pEnd hq h))
  | succ d ih =>
    intro b q hb hq h
    have h9 : b < 9 := by omega
    have hq9 : q < 9 := by omega
    rw [wY_isPath_4]
    simp only [xw_cl hq9, yw_bit1 hn h9, yw_eqI h9]
    have hi := xw_in hq9
    refine br_f (nI_ge (b := 9) h9 (by decide)) (br_c (fun c => br_t (nI_pos' (by omega)) ⟨hi, br_c (fun c1 => nm_r (nI_1 b) (ih (b + 1) b (by omega) (by omega) ?_)) (fun c1 => ⟨hi, br_c (fun c2 => nm_r (nI_1 b) (ih (b + 1) b (by omega) (by omega) ?_)) (fun c2 => ?_)⟩)⟩) (fun c => nm_r (nI_1 b) (ih (b + 1) q (by omega) (by omega) ?_)))
    · rw [pp_btt d c, pp_ok, decide_eq_true ⟨hq, Or.inl c1⟩, Bool.true_and] at h
      exact h
    · rw [pp_btt d c, pp_ok, decide_eq_true ⟨hq, Or.inr c2⟩, Bool.true_and] at h
      exact h
    · rw [pp_btt d c, pp_ok, decide_eq_false (fun z => z.2.elim c1 c2), Bool.false_and] at h
      exact h
    · rw [pp_btf d c] at h
      exact h
theorem yw_p4' {post : Int32 → Prop} {un : Int32} {f s cs : Nat → Int32} {n : Nat} (hn : n < 512) : ∀ (d b : Nat), b + d = 9 → post (pp_b (pp_isP (pp_ti f) (pp_ti s) (pp_bt n b d))) → wY_isPath_4 post (nI n) un f s cs (d + 1) (-1) (nI b) := by
  intro d
  induction d with
  | zero =>
    intro b hb h
    have e : b = 9 := by omega
    subst e
    rw [wY_isPath_4]
    exact br_t (by decide) (br_t (by decide) h)
  | succ d ih =>
    intro b hb h
    have h9 : b < 9 := by omega
    rw [wY_isPath_4]
    simp only [yw_bit1 hn h9]
    refine br_f (nI_ge (b := 9) h9 (by decide)) (br_c (fun c => br_f (by decide) (yw_isHead h9 (fun c1 => br_f xw_1 (nm_r (nI_1 b) (yw_p4 hn d (b + 1) b (by omega) (by omega) ?_))) (fun c1 => br_t rfl ?_))) (fun c => nm_r (nI_1 b) (ih (b + 1) (by omega) ?_)))
    · rw [pp_btt d c, pp_isP, c1, Bool.true_and] at h
      exact h
    · rw [pp_btt d c, pp_isP, Bool.not_eq_true _ |>.mp c1, Bool.false_and] at h
      exact h
    · rw [pp_btf d c] at h
      exact h
theorem yw_isPath {post : Int32 → Prop} {un : Int32} {f s cs : Nat → Int32} {n : Nat} (hn : n < 512) (h1 : pp_Y (pp_ti f) (pp_ti s) n = true → post 1) (h0 : ¬ pp_Y (pp_ti f) (pp_ti s) n = true → post 0) : wpY_isPath post (un, f, s, cs) (nI n) := by
  unfold wpY_isPath
  refine ⟨10, yw_p4' hn 9 0 (by omega) ?_⟩
  rw [pp_bt9]
  by_cases c : pp_Y (pp_ti f) (pp_ti s) n = true
  · have e : pp_isP (pp_ti f) (pp_ti s) (pp_bits n) = true := c
    rw [pp_b1 e]
    exact h1 c
  · have e : ¬ pp_isP (pp_ti f) (pp_ti s) (pp_bits n) = true := c
    rw [pp_b0 e]
    exact h0 c
theorem yw_c4 {post : Int32 → Prop} {un : Int32} {f s cs : Nat → Int32} {n : Nat} (hn : n < 512) : ∀ (d b a : Nat), b + d = 9 → post (nI ((pp_bt n b d).foldl pp_cf a)) → wY_codeOf_4 post (nI n) un f s cs (d + 1) (nI a) (nI b) := by
  intro d
  induction d with
  | zero =>
    intro b a hb h
    have e : b = 9 := by omega
    subst e
    rw [wY_codeOf_4]
    exact br_t (by decide) h
  | succ d ih =>
    intro b a hb h
    have h9 : b < 9 := by omega
    rw [wY_codeOf_4]
    simp only [yw_bit1 hn h9]
    have e : 10 * nI a + nI b + 1 = nI (pp_cf a b) := by
      show nI 10 * nI a + nI b + 1 = _
      rw [pk_mul, nI_add, nI_1, Nat.mul_comm]
      rfl
    refine br_f (nI_ge (b := 9) h9 (by decide)) (br_c (fun c => nm_r e (nm_r (nI_1 b) (ih (b + 1) _ (by omega) ?_))) (fun c => nm_r (nI_1 b) (ih (b + 1) a (by omega) ?_)))
    · rw [pp_btt d c, List.foldl_cons] at h
      exact h
    · rw [pp_btf d c] at h
      exact h
theorem yw_codeOf {post : Int32 → Prop} {un : Int32} {f s cs : Nat → Int32} {n : Nat} (hn : n < 512) (h : post (nI (pp_code (pp_bits n)))) : wpY_codeOf post (un, f, s, cs) (nI n) := by
  unfold wpY_codeOf
  refine ⟨10, yw_c4 hn 9 0 0 (by omega) ?_⟩
  rw [pp_bt9]
  exact h
end
section
/-! Y's loops over the sets, each a fold -/
theorem yw_cl {n : Nat} (h : n < 512) : (nI n).toNatClampNeg = n := nI_clamp (by omega)
theorem yw_in {n : Nat} (h : n < 512) : vp_in (nI n) 512 := vp_in_nI h (by decide)
theorem yw_ge {n : Nat} (h : n < 512) : ¬ (512 : Int32) ≤ nI n := nI_ge (b := 512) h (by decide)
theorem yw_end {n : Nat} (h : n + 0 = 512) : (512 : Int32) ≤ nI n := nI_le (a := 512) (by omega) (by omega)
theorem pp_rs {β : Type} {g : β → Nat → β} {n d : Nat} {a : β} : (List.range' n (d + 1)).foldl g a = (List.range' (n + 1) d).foldl g (g a n) := rfl
def pp_yP (F S : Nat → Int) (z : Int32) (n : Nat) : Int32 := if pp_Y F S n = true then z + 1 else z
theorem yw_poss {post : Int32 → Prop} {un : Int32} {f s cs : Nat → Int32} : ∀ (d n : Nat) (a : Int32), n + d = 512 → post ((List.range' n d).foldl (pp_yP (pp_ti f) (pp_ti s)) a) → wY_possible_4 post un f s cs (d + 1) a (nI n) := by
  intro d
  induction d with
  | zero =>
    intro n a hn h
    rw [wY_possible_4]
    exact br_t (yw_end hn) h
  | succ d ih =>
    intro n a hn h
    rw [wY_possible_4]
    rw [pp_rs, pp_yP] at h
    have h5 : n < 512 := by omega
    refine br_f (yw_ge h5) (yw_isPath h5 (fun c => br_f xw_1 (nm_e (nm_r (nI_1 n) (ih (n + 1) _ (by omega) ?_)))) (fun c => br_t rfl (nm_r (nI_1 n) (ih (n + 1) _ (by omega) ?_))))
    · rw [if_pos c] at h; exact h
    · rw [if_neg c] at h; exact h
def pp_yD (cs : Nat → Int32) (z : Int32) (n : Nat) : Int32 := if cs n ≤ 0 then z else z + 1
theorem yw_dist {post : Int32 → Prop} {un : Int32} {f s cs : Nat → Int32} : ∀ (d n : Nat) (a : Int32), n + d = 512 → post ((List.range' n d).foldl (pp_yD cs) a) → wY_distinct_4 post un f s cs (d + 1) a (nI n) := by
  intro d
  induction d with
  | zero =>
    intro n a hn h
    rw [wY_distinct_4]
    exact br_t (yw_end hn) h
  | succ d ih =>
    intro n a hn h
    rw [wY_distinct_4]
    rw [pp_rs, pp_yD] at h
    have h5 : n < 512 := by omega
    simp only [yw_cl h5]
    refine br_f (yw_ge h5) ⟨yw_in h5, br_c (fun c => nm_r (nI_1 n) (ih (n + 1) _ (by omega) ?_)) (fun c => nm_e (nm_r (nI_1 n) (ih (n + 1) _ (by omega) ?_)))⟩
    · rw [if_pos c] at h; exact h
    · rw [if_neg c] at h; exact h
def pp_yG (cs : Nat → Int32) (z : Int32) (n : Nat) : Int32 := z + cs n
theorem yw_gone {post : Int32 → Prop} {un : Int32} {f s cs : Nat → Int32} : ∀ (d n : Nat) (a : Int32), n + d = 512 → post ((List.range' n d).foldl (pp_yG cs) a) → wY_gone_4 post un f s cs (d + 1) a (nI n) := by
  intro d
  induction d with
  | zero =>
    intro n a hn h
    rw [wY_gone_4]
    exact br_t (yw_end hn) h
  | succ d ih =>
    intro n a hn h
    rw [wY_gone_4]
    rw [pp_rs, pp_yG] at h
    have h5 : n < 512 := by omega
    simp only [yw_cl h5]
    exact br_f (yw_ge h5) ⟨yw_in h5, nm_e (nm_r (nI_1 n) (ih (n + 1) _ (by omega) h))⟩
def pp_yT (F S : Nat → Int) (b : Nat) (z : Int32) (n : Nat) : Int32 := if n.testBit b = true then (if pp_Y F S n = true then z + 1 else z) else z
theorem yw_thro {post : Int32 → Prop} {un : Int32} {f s cs : Nat → Int32} {b : Nat} (hb : b < 9) : ∀ (d n : Nat) (a : Int32), n + d = 512 → post ((List.range' n d).foldl (pp_yT (pp_ti f) (pp_ti s) b) a) → wY_through_14 post (nI b) un f s cs (d + 1) a (nI n) := by
  intro d
  induction d with
  | zero =>
    intro n a hn h
    rw [wY_through_14]
    exact br_t (yw_end hn) h
  | succ d ih =>
    intro n a hn h
    rw [wY_through_14]
    rw [pp_rs, pp_yT] at h
    have h5 : n < 512 := by omega
    simp only [yw_bit1 h5 hb]
    refine br_f (yw_ge h5) (br_c (fun c0 => yw_isPath h5 (fun c => br_f xw_1 (nm_e (nm_r (nI_1 n) (ih (n + 1) _ (by omega) ?_)))) (fun c => br_t rfl (nm_r (nI_1 n) (ih (n + 1) _ (by omega) ?_)))) (fun c0 => nm_r (nI_1 n) (ih (n + 1) _ (by omega) ?_)))
    · rw [if_pos c0, if_pos c] at h; exact h
    · rw [if_pos c0, if_neg c] at h; exact h
    · rw [if_neg c0] at h; exact h
def pp_yV (cs : Nat → Int32) (b : Nat) (z : Int32) (n : Nat) : Int32 := if n.testBit b = true then z + cs n else z
theorem yw_visi {post : Int32 → Prop} {un : Int32} {f s cs : Nat → Int32} {b : Nat} (hb : b < 9) : ∀ (d n : Nat) (a : Int32), n + d = 512 → post ((List.range' n d).foldl (pp_yV cs b) a) → wY_visits_14 post (nI b) un f s cs (d + 1) a (nI n) := by
  intro d
  induction d with
  | zero =>
    intro n a hn h
    rw [wY_visits_14]
    exact br_t (yw_end hn) h
  | succ d ih =>
    intro n a hn h
    rw [wY_visits_14]
    rw [pp_rs, pp_yV] at h
    have h5 : n < 512 := by omega
    simp only [yw_bit1 h5 hb, yw_cl h5]
    refine br_f (yw_ge h5) (br_c (fun c0 => ⟨yw_in h5, nm_e (nm_r (nI_1 n) (ih (n + 1) _ (by omega) ?_))⟩) (fun c0 => nm_r (nI_1 n) (ih (n + 1) _ (by omega) ?_)))
    · rw [if_pos c0] at h; exact h
    · rw [if_neg c0] at h; exact h
def pp_yA (cs : Nat → Int32) (x3 x4 : Int32) (z : Int32) (n : Nat) : Int32 := if nI n &&& x4 = x3 then z + cs n else z
theorem yw_arc {post : Int32 → Prop} {un : Int32} {f s cs : Nat → Int32} {x3 x4 : Int32} : ∀ (d n : Nat) (a : Int32), n + d = 512 → post ((List.range' n d).foldl (pp_yA cs x3 x4) a) → wY_arc_68 post x3 x4 un f s cs (d + 1) a (nI n) := by
  intro d
  induction d with
  | zero =>
    intro n a hn h
    rw [wY_arc_68]
    exact br_t (yw_end hn) h
  | succ d ih =>
    intro n a hn h
    rw [wY_arc_68]
    rw [pp_rs, pp_yA] at h
    have h5 : n < 512 := by omega
    simp only [yw_cl h5]
    refine br_f (yw_ge h5) (br_c (fun c0 => ⟨yw_in h5, nm_e (nm_r (nI_1 n) (ih (n + 1) _ (by omega) ?_))⟩) (fun c0 => nm_r (nI_1 n) (ih (n + 1) _ (by omega) ?_)))
    · rw [if_pos c0] at h; exact h
    · rw [if_neg c0] at h; exact h
def pp_yS (F S : Nat → Int) (c : Nat) (z : Int32) (n : Nat) : Int32 := if nI c ≤ nI (pp_code (pp_bits n)) then z else (if pp_Y F S n = true then z + 1 else z)
theorem yw_less {post : Int32 → Prop} {un : Int32} {f s cs : Nat → Int32} {c : Nat} : ∀ (d n : Nat) (a : Int32), n + d = 512 → post ((List.range' n d).foldl (pp_yS (pp_ti f) (pp_ti s) c) a) → wY_lesser_4 post (nI c) un f s cs (d + 1) a (nI n) := by
  intro d
  induction d with
  | zero =>
    intro n a hn h
    rw [wY_lesser_4]
    exact br_t (yw_end hn) h
  | succ d ih =>
    intro n a hn h
    rw [wY_lesser_4]
    rw [pp_rs, pp_yS] at h
    have h5 : n < 512 := by omega
    refine br_f (yw_ge h5) (yw_codeOf h5 (br_c (fun c0 => nm_r (nI_1 n) (ih (n + 1) _ (by omega) ?_)) (fun c0 => yw_isPath h5 (fun c => br_f xw_1 (nm_e (nm_r (nI_1 n) (ih (n + 1) _ (by omega) ?_)))) (fun c => br_t rfl (nm_r (nI_1 n) (ih (n + 1) _ (by omega) ?_))))))
    · rw [if_pos c0] at h; exact h
    · rw [if_neg c0, if_pos c] at h; exact h
    · rw [if_neg c0, if_neg c] at h; exact h
theorem yw_l16 {post : Int32 → Prop} {J : Int32 → Int32 → Prop} {un : Int32} {f s cs : Nat → Int32} {x1 : Int32} {n : Nat} (hn : n < 512) (m : Nat) (h1 : nI m ≤ x1 → J x1 (nI (n + 1))) (h2 : ¬ nI m ≤ x1 → pp_Y (pp_ti f) (pp_ti s) n = true → J (nI m) (nI (n + 1))) (h3 : ¬ nI m ≤ x1 → ¬ pp_Y (pp_ti f) (pp_ti s) n = true → J x1 (nI (n + 1))) :
    ∀ (d b c : Nat), b + d = 9 → c + (pp_bt n b d).length = m → wY_longest_16 post J x1 (nI n) un f s cs (d + 1) (nI c) (nI b) := by
  intro d
  induction d with
  | zero =>
    intro b c hb h
    have e : b = 9 := by omega
    subst e
    rw [pp_bt0, List.length_nil] at h
    have e : c = m := by omega
    subst e
    rw [wY_longest_16]
    exact br_t (nI_le (a := 9) (by omega) (by omega)) (br_c (fun z => nm_r (nI_1 n) (h1 z)) (fun z => yw_isPath hn (fun y => br_f xw_1 (nm_r (nI_1 n) (h2 z y))) (fun y => br_t rfl (nm_r (nI_1 n) (h3 z y)))))
  | succ d ih =>
    intro b c hb h
    have h9 : b < 9 := by omega
    rw [wY_longest_16]
    dsimp only
    rw [yw_bit hn h9]
    refine br_f (nI_ge (b := 9) h9 (by decide)) ?_
    by_cases t : n.testBit b = true
    · rw [pp_btt d t, List.length_cons] at h
      rw [pp_b1 t]
      exact nm_r (nI_1 c) (nm_r (nI_1 b) (ih (b + 1) (c + 1) (by omega) (by omega)))
    · rw [pp_btf d t] at h
      rw [pp_b0 t]
      refine nm_r (e' := nI c) ?_ (nm_r (nI_1 b) (ih (b + 1) c (by omega) (by omega)))
      exact Int32.add_zero _
def pp_yL (F S : Nat → Int) (z : Int32) (n : Nat) : Int32 := if nI (pp_bits n).length ≤ z then z else (if pp_Y F S n = true then nI (pp_bits n).length else z)
theorem yw_long {post : Int32 → Prop} {un : Int32} {f s cs : Nat → Int32} : ∀ (d n : Nat) (a : Int32), n + d = 512 → post ((List.range' n d).foldl (pp_yL (pp_ti f) (pp_ti s)) a) → wY_longest_4 post un f s cs (d + 1) a (nI n) := by
  intro d
  induction d with
  | zero =>
    intro n a hn h
    rw [wY_longest_4]
    exact br_t (yw_end hn) h
  | succ d ih =>
    intro n a hn h
    rw [wY_longest_4]
    rw [pp_rs, pp_yL] at h
    have h5 : n < 512 := by omega
    refine br_f (yw_ge h5) ⟨10, yw_l16 h5 (pp_bits n).length (fun c => ih (n + 1) _ (by omega) ?_) (fun c c2 => ih (n + 1) _ (by omega) ?_) (fun c c2 => ih (n + 1) _ (by omega) ?_) 9 0 0 (by omega) (by rw [pp_bt9]; omega)⟩
    · rw [if_pos c] at h; exact h
    · rw [if_neg c, if_pos c2] at h; exact h
    · rw [if_neg c, if_neg c2] at h; exact h
/-- hottest's step: (best, most) -/
def pp_yH (cs : Nat → Int32) (z : Int32 × Int32) (n : Nat) : Int32 × Int32 :=
  if z.2 < cs n then (nI (pp_code (pp_bits n)), cs n) else if cs n = z.2 then (if z.2 ≤ 0 then z else if z.1 ≤ nI (pp_code (pp_bits n)) then z else (nI (pp_code (pp_bits n)), cs n)) else z
theorem yw_h51 {post : Int32 → Prop} {J : Int32 → Int32 → Int32 → Prop} {un : Int32} {f s cs : Nat → Int32} {n : Nat} (hn : n < 512) {x4 : Int32} (h : J x4 (cs n) (nI (n + 1))) : wY_hottest_51 post J (nI n) x4 un f s cs := by
  unfold wY_hottest_51
  simp only [yw_cl hn]
  exact ⟨yw_in hn, nm_e (nm_r (nI_1 n) h)⟩
theorem yw_hott {post : Int32 → Prop} {un : Int32} {f s cs : Nat → Int32} : ∀ (d n : Nat) (x1 x2 : Int32), n + d = 512 → post ((List.range' n d).foldl (pp_yH cs) (x1, x2)).1 → wY_hottest_7 post un f s cs (d + 1) x1 x2 (nI n) := by
  intro d
  induction d with
  | zero =>
    intro n x1 x2 hn h
    rw [wY_hottest_7]
    exact br_t (yw_end hn) h
  | succ d ih =>
    intro n x1 x2 hn h
    rw [wY_hottest_7]
    rw [pp_rs, pp_yH] at h
    dsimp only at h
    have h5 : n < 512 := by omega
    simp only [yw_cl h5]
    refine br_f (yw_ge h5) (yw_codeOf h5 ⟨yw_in h5, br_c (fun c => yw_h51 h5 (ih (n + 1) _ _ (by omega) ?_)) (fun c => ⟨yw_in h5, br_c (fun c2 => br_c (fun c3 => nm_r (nI_1 n) (ih (n + 1) _ _ (by omega) ?_)) (fun c3 => br_c (fun c4 => nm_r (nI_1 n) (ih (n + 1) _ _ (by omega) ?_)) (fun c4 => yw_h51 h5 (ih (n + 1) _ _ (by omega) ?_)))) (fun c2 => nm_r (nI_1 n) (ih (n + 1) _ _ (by omega) ?_))⟩)⟩)
    · rw [if_pos c] at h; exact h
    · rw [if_neg c, if_pos c2, if_pos c3] at h; exact h
    · rw [if_neg c, if_pos c2, if_neg c3, if_pos c4] at h; exact h
    · rw [if_neg c, if_pos c2, if_neg c3, if_neg c4] at h; exact h
    · rw [if_neg c, if_neg c2] at h; exact h
/-! Y's searches -/
theorem yw_time {post : Int32 → Prop} {un : Int32} {f s cs : Nat → Int32} {v : Int32} (h1 : ∀ n, 1 ≤ n → n < 512 → pp_Y (pp_ti f) (pp_ti s) n = true → nI (pp_code (pp_bits n)) = v → post (cs n)) :
    ∀ (d n : Nat), n + d = 512 → 1 ≤ n → ((∀ m, n ≤ m → m < 512 → pp_Y (pp_ti f) (pp_ti s) m = true → ¬ nI (pp_code (pp_bits m)) = v) → post (-4)) → wY_times_2 post v un f s cs (d + 1) (nI n) := by
  intro d
  induction d with
  | zero =>
    intro n hn h1n h0
    rw [wY_times_2]
    exact br_t (yw_end hn) (h0 (fun m l1 l2 => by omega))
  | succ d ih =>
    intro n hn h1n h0
    rw [wY_times_2]
    have h5 : n < 512 := by omega
    simp only [yw_cl h5]
    have go : (pp_Y (pp_ti f) (pp_ti s) n = true → ¬ nI (pp_code (pp_bits n)) = v) → wY_times_2 post v un f s cs (d + 1) (nI (n + 1)) := by
      intro g
      refine ih (n + 1) (by omega) (by omega) (fun g2 => h0 ?_)
      intro m l1 l2
      by_cases e : m = n
      · subst e; exact g
      · exact g2 m (by omega) l2
    exact br_f (yw_ge h5) (yw_codeOf h5 (br_c (fun c => yw_isPath h5 (fun y => br_f xw_1 ⟨yw_in h5, h1 n h1n h5 y c⟩) (fun y => br_t rfl (nm_r (nI_1 n) (go (fun z => absurd z y))))) (fun c => nm_r (nI_1 n) (go (fun _ => c)))))
theorem yw_path {post : Int32 → Prop} {un : Int32} {f s cs : Nat → Int32} {v : Int32} {rk : Nat → Int32} (hr : ∀ c, rk c = (List.range' 1 511).foldl (pp_yS (pp_ti f) (pp_ti s) c) 0) (h1 : ∀ n, 1 ≤ n → n < 512 → pp_Y (pp_ti f) (pp_ti s) n = true → rk (pp_code (pp_bits n)) = v → post (nI (pp_code (pp_bits n)))) :
    ∀ (d n : Nat), n + d = 512 → 1 ≤ n → ((∀ m, n ≤ m → m < 512 → pp_Y (pp_ti f) (pp_ti s) m = true → ¬ rk (pp_code (pp_bits m)) = v) → post (-4)) → wY_path_2 post v un f s cs (d + 1) (nI n) := by
  intro d
  induction d with
  | zero =>
    intro n hn h1n h0
    rw [wY_path_2]
    exact br_t (yw_end hn) (h0 (fun m l1 l2 => by omega))
  | succ d ih =>
    intro n hn h1n h0
    rw [wY_path_2]
    have h5 : n < 512 := by omega
    have go : (pp_Y (pp_ti f) (pp_ti s) n = true → ¬ rk (pp_code (pp_bits n)) = v) → wY_path_2 post v un f s cs (d + 1) (nI (n + 1)) := by
      intro g
      refine ih (n + 1) (by omega) (by omega) (fun g2 => h0 ?_)
      intro m l1 l2
      by_cases e : m = n
      · subst e; exact g
      · exact g2 m (by omega) l2
    have ls : ∀ {P : Int32 → Prop}, P (rk (pp_code (pp_bits n))) → wpY_lesser P (un, f, s, cs) (nI (pp_code (pp_bits n))) := by
      intro P hP
      unfold wpY_lesser
      rw [hr] at hP
      exact ⟨_, yw_less 511 1 0 (by omega) hP⟩
    exact br_f (yw_ge h5) (yw_isPath h5 (fun y => br_f xw_1 (yw_codeOf h5 (ls (br_c (fun c => h1 n h1n h5 y c) (fun c => nm_r (nI_1 n) (go (fun _ => c))))))) (fun y => br_t rfl (nm_r (nI_1 n) (go (fun z => absurd z y)))))
end
section
/-! X's loops over the paths by number, each a fold over the list of paths -/
theorem xw_cl6 {n : Nat} (h : n < 160) : (nI n).toNatClampNeg = n := nI_clamp (by omega)
theorem xw_in6 {n : Nat} (h : n < 160) : vp_in (nI n) 160 := vp_in_nI h (by decide)
/-- the path numbered k -/
def pp_at' (f s : Nat → Int32) (k : Nat) : List Nat := (pp_PL (pp_ti f) (pp_ti s)).getD k []
theorem pp_at'_e {f s : Nat → Int32} {k : Nat} (h : k < (pp_PL (pp_ti f) (pp_ti s)).length) : (pp_PL (pp_ti f) (pp_ti s))[k]? = some (pp_at' f s k) := pp_getD [] h
/-- X's counts are Y's -/
def pp_CC (f s cnt cs : Nat → Int32) : Prop := ∀ (j : Nat) (p : List Nat), (pp_PL (pp_ti f) (pp_ti s))[j]? = some p → cnt j = cs (pp_so p)
def pp_xD (cs : Nat → Int32) (z : Int32) (p : List Nat) : Int32 := if cs (pp_so p) ≤ 0 then z else z + 1
theorem xw_dist {post : Int32 → SX → Prop} {num op sz : Int32} {f s wo ba cnt li co : Nat → Int32} {cs : Nat → Int32} {P : Nat} (hP : P = (pp_PL (pp_ti f) (pp_ti s)).length) (h142 : P ≤ 142) (hc : pp_CC f s cnt cs) : ∀ (d k : Nat) (a : Int32), k + d = P → post ((List.range' k d).foldl (fun z k => pp_xD cs z (pp_at' f s k)) a) (num, nI P, op, sz, f, s, wo, ba, cnt, li, co) → wX_distinct_8 post num (nI P) op sz f s wo ba cnt li co (d + 1) a (nI k) := by
  intro d
  induction d with
  | zero =>
    intro k a hk h
    rw [wX_distinct_8]
    exact br_t (nI_le (by omega) (by omega)) h
  | succ d ih =>
    intro k a hk h
    rw [wX_distinct_8]
    rw [pp_rs] at h
    have h6 : k < 160 := by omega
    simp only [xw_cl6 h6, hc k _ (pp_at'_e (by omega))]
    refine br_f (nI_ge (by omega) (by omega)) ⟨xw_in6 h6, br_c (fun c => nm_r (nI_1 k) (ih (k + 1) _ (by omega) ?_)) (fun c => nm_e (nm_r (nI_1 k) (ih (k + 1) _ (by omega) ?_)))⟩
    · rw [pp_xD, if_pos c] at h; exact h
    · rw [pp_xD, if_neg c] at h; exact h
def pp_xG (cs : Nat → Int32) (z : Int32) (p : List Nat) : Int32 := z + cs (pp_so p)
theorem xw_gone {post : Int32 → SX → Prop} {num op sz : Int32} {f s wo ba cnt li co : Nat → Int32} {cs : Nat → Int32} {P : Nat} (hP : P = (pp_PL (pp_ti f) (pp_ti s)).length) (h142 : P ≤ 142) (hc : pp_CC f s cnt cs) : ∀ (d k : Nat) (a : Int32), k + d = P → post ((List.range' k d).foldl (fun z k => pp_xG cs z (pp_at' f s k)) a) (num, nI P, op, sz, f, s, wo, ba, cnt, li, co) → wX_gone_8 post num (nI P) op sz f s wo ba cnt li co (d + 1) a (nI k) := by
  intro d
  induction d with
  | zero =>
    intro k a hk h
    rw [wX_gone_8]
    exact br_t (nI_le (by omega) (by omega)) h
  | succ d ih =>
    intro k a hk h
    rw [wX_gone_8]
    rw [pp_rs] at h
    have h6 : k < 160 := by omega
    simp only [xw_cl6 h6, hc k _ (pp_at'_e (by omega))]
    exact br_f (nI_ge (by omega) (by omega)) ⟨xw_in6 h6, nm_e (nm_r (nI_1 k) (ih (k + 1) _ (by omega) h))⟩
def pp_xT (b : Nat) (z : Int32) (p : List Nat) : Int32 := if b ∈ p then z + 1 else z
theorem xw_thro {post : Int32 → SX → Prop} {num op : Int32} {f s wo ba cnt co : Nat → Int32} {b P : Nat} (hw : pp_wf (pp_ti f) (pp_ti s)) (hN : pp_Nb f s (nI P) wo ba) (hb : b < 9) (hP : P = (pp_PL (pp_ti f) (pp_ti s)).length) (h142 : P ≤ 142) : ∀ (d k : Nat) (a sz : Int32) (li : Nat → Int32), k + d = P → (∀ (sz : Int32) (li : Nat → Int32), post ((List.range' k d).foldl (fun z k => pp_xT b z (pp_at' f s k)) a) (num, nI P, op, sz, f, s, wo, ba, cnt, li, co)) → wX_through_18 post (nI b) (d + 1) a (nI k) num (nI P) op sz f s wo ba cnt li co := by
  intro d
  induction d with
  | zero =>
    intro k a sz li hk h
    rw [wX_through_18]
    exact br_t (nI_le (by omega) (by omega)) (h sz li)
  | succ d ih =>
    intro k a sz li hk h
    rw [wX_through_18]
    have hp := pp_at'_e (f := f) (s := s) (k := k) (by omega)
    have hs := pp_PL_srt hw (List.mem_of_getElem? hp)
    refine br_f (nI_ge (by omega) (by omega)) (xw_spread hw hN hp (fun li hl => xw_inList hs hb hl (fun c => br_f xw_1 (nm_e (nm_r (nI_1 k) (ih (k + 1) _ _ _ (by omega) ?_)))) (fun c => br_t rfl (nm_r (nI_1 k) (ih (k + 1) _ _ _ (by omega) ?_)))))
    · intro sz li
      have h := h sz li
      rw [pp_rs, pp_xT, if_pos c] at h
      exact h
    · intro sz li
      have h := h sz li
      rw [pp_rs, pp_xT, if_neg c] at h
      exact h
def pp_xV (cs : Nat → Int32) (b : Nat) (z : Int32) (p : List Nat) : Int32 := if cs (pp_so p) ≤ 0 then z else (if b ∈ p then z + cs (pp_so p) else z)
theorem xw_visi {post : Int32 → SX → Prop} {num op : Int32} {f s wo ba cnt co : Nat → Int32} {cs : Nat → Int32} {b P : Nat} (hw : pp_wf (pp_ti f) (pp_ti s)) (hN : pp_Nb f s (nI P) wo ba) (hb : b < 9) (hP : P = (pp_PL (pp_ti f) (pp_ti s)).length) (h142 : P ≤ 142) (hc : pp_CC f s cnt cs) : ∀ (d k : Nat) (a sz : Int32) (li : Nat → Int32), k + d = P → (∀ (sz : Int32) (li : Nat → Int32), post ((List.range' k d).foldl (fun z k => pp_xV cs b z (pp_at' f s k)) a) (num, nI P, op, sz, f, s, wo, ba, cnt, li, co)) → wX_visits_18 post (nI b) (d + 1) a (nI k) num (nI P) op sz f s wo ba cnt li co := by
  intro d
  induction d with
  | zero =>
    intro k a sz li hk h
    rw [wX_visits_18]
    exact br_t (nI_le (by omega) (by omega)) (h sz li)
  | succ d ih =>
    intro k a sz li hk h
    rw [wX_visits_18]
    have hp := pp_at'_e (f := f) (s := s) (k := k) (by omega)
    have hs := pp_PL_srt hw (List.mem_of_getElem? hp)
    have h6 : k < 160 := by omega
    simp only [xw_cl6 h6, hc k _ hp]
    refine br_f (nI_ge (by omega) (by omega)) ⟨xw_in6 h6, br_c (fun c0 => nm_r (nI_1 k) (ih (k + 1) _ _ _ (by omega) ?_)) (fun c0 => xw_spread hw hN hp (fun li hl => xw_inList hs hb hl (fun c => br_f xw_1 ⟨xw_in6 h6, ?_⟩) (fun c => br_t rfl (nm_r (nI_1 k) (ih (k + 1) _ _ _ (by omega) ?_)))))⟩
    · intro sz li
      have h := h sz li
      rw [pp_rs, pp_xV, if_pos c0] at h
      exact h
    · dsimp only
      rw [hc k _ hp]
      refine nm_e (nm_r (nI_1 k) (ih (k + 1) _ _ _ (by omega) ?_))
      intro sz li
      have h := h sz li
      rw [pp_rs, pp_xV, if_neg c0, if_pos c] at h
      exact h
    · intro sz li
      have h := h sz li
      rw [pp_rs, pp_xV, if_neg c0, if_neg c] at h
      exact h
def pp_xA (cs : Nat → Int32) (v w : Int32) (z : Int32) (p : List Nat) : Int32 := if cs (pp_so p) ≤ 0 then z else (if pp_adj v w p = true then z + cs (pp_so p) else z)
theorem xw_arc {post : Int32 → SX → Prop} {num op : Int32} {f s wo ba cnt co : Nat → Int32} {cs : Nat → Int32} {v w : Int32} {P : Nat} (hw : pp_wf (pp_ti f) (pp_ti s)) (hN : pp_Nb f s (nI P) wo ba) (hP : P = (pp_PL (pp_ti f) (pp_ti s)).length) (h142 : P ≤ 142) (hc : pp_CC f s cnt cs) : ∀ (d k : Nat) (a sz : Int32) (li : Nat → Int32), k + d = P → (∀ (sz : Int32) (li : Nat → Int32), post ((List.range' k d).foldl (fun z k => pp_xA cs v w z (pp_at' f s k)) a) (num, nI P, op, sz, f, s, wo, ba, cnt, li, co)) → wX_arc_9 post v w (d + 1) a (nI k) num (nI P) op sz f s wo ba cnt li co := by
  intro d
  induction d with
  | zero =>
    intro k a sz li hk h
    rw [wX_arc_9]
    exact br_t (nI_le (by omega) (by omega)) (h sz li)
  | succ d ih =>
    intro k a sz li hk h
    rw [wX_arc_9]
    have hp := pp_at'_e (f := f) (s := s) (k := k) (by omega)
    have hm := List.mem_of_getElem? hp
    have hs := pp_PL_srt hw hm
    have hne := pp_PL_ne hw hm
    have h6 : k < 160 := by omega
    simp only [xw_cl6 h6, hc k _ hp]
    refine br_f (nI_ge (by omega) (by omega)) ⟨xw_in6 h6, br_c (fun c0 => nm_r (nI_1 k) (ih (k + 1) _ _ _ (by omega) ?_)) (fun c0 => xw_spread hw hN hp (fun li hl => xw_hasArc hs hne hl (fun c => br_f xw_1 ⟨xw_in6 h6, ?_⟩) (fun c => br_t rfl (nm_r (nI_1 k) (ih (k + 1) _ _ _ (by omega) ?_)))))⟩
    · intro sz li
      have h := h sz li
      rw [pp_rs, pp_xA, if_pos c0] at h
      exact h
    · dsimp only
      rw [hc k _ hp]
      refine nm_e (nm_r (nI_1 k) (ih (k + 1) _ _ _ (by omega) ?_))
      intro sz li
      have h := h sz li
      rw [pp_rs, pp_xA, if_neg c0, if_pos c] at h
      exact h
    · intro sz li
      have h := h sz li
      rw [pp_rs, pp_xA, if_neg c0, if_neg c] at h
      exact h
def pp_xL (z : Int32) (p : List Nat) : Int32 := if nI p.length ≤ z then z else nI p.length
theorem xw_long {post : Int32 → SX → Prop} {num op : Int32} {f s wo ba cnt co : Nat → Int32} {P : Nat} (hw : pp_wf (pp_ti f) (pp_ti s)) (hN : pp_Nb f s (nI P) wo ba) (hP : P = (pp_PL (pp_ti f) (pp_ti s)).length) (h142 : P ≤ 142) : ∀ (d k : Nat) (a sz : Int32) (li : Nat → Int32), k + d = P → (∀ (sz : Int32) (li : Nat → Int32), post ((List.range' k d).foldl (fun z k => pp_xL z (pp_at' f s k)) a) (num, nI P, op, sz, f, s, wo, ba, cnt, li, co)) → wX_longest_8 post (d + 1) a (nI k) num (nI P) op sz f s wo ba cnt li co := by
  intro d
  induction d with
  | zero =>
    intro k a sz li hk h
    rw [wX_longest_8]
    exact br_t (nI_le (by omega) (by omega)) (h sz li)
  | succ d ih =>
    intro k a sz li hk h
    rw [wX_longest_8]
    have hp := pp_at'_e (f := f) (s := s) (k := k) (by omega)
    refine br_f (nI_ge (by omega) (by omega)) (xw_spread hw hN hp (fun li hl => br_c (fun c => nm_r (nI_1 k) (ih (k + 1) _ _ _ (by omega) ?_)) (fun c => nm_r (nI_1 k) (ih (k + 1) _ _ _ (by omega) ?_))))
    · intro sz li
      have h := h sz li
      rw [pp_rs, pp_xL, if_pos c] at h
      exact h
    · intro sz li
      have h := h sz li
      rw [pp_rs, pp_xL, if_neg c] at h
      exact h
/-- hottest's step: (best, most) -/
def pp_xH (cs : Nat → Int32) (z : Int32 × Int32) (p : List Nat) : Int32 × Int32 :=
  if cs (pp_so p) ≤ 0 then z else if cs (pp_so p) < z.2 then z else if z.2 < cs (pp_so p) then (nI (pp_code p), cs (pp_so p)) else if z.1 ≤ nI (pp_code p) then z else (nI (pp_code p), cs (pp_so p))
theorem xw_h61 {post : Int32 → SX → Prop} {J : Int32 → Int32 → Int32 → Int32 → Int32 → Int32 → Int32 → (Nat → Int32) → (Nat → Int32) → (Nat → Int32) → (Nat → Int32) → (Nat → Int32) → (Nat → Int32) → (Nat → Int32) → Prop} {num pa op sz : Int32} {f s wo ba cnt li co : Nat → Int32} {k : Nat} (hk : k < 160) {x4 : Int32} (h : J x4 (cnt k) (nI (k + 1)) num pa op sz f s wo ba cnt li co) : wX_hottest_61 post J (nI k) x4 num pa op sz f s wo ba cnt li co := by
  unfold wX_hottest_61
  simp only [xw_cl6 hk]
  exact ⟨xw_in6 hk, nm_e (nm_r (nI_1 k) h)⟩
theorem xw_hott {post : Int32 → SX → Prop} {num op : Int32} {f s wo ba cnt co : Nat → Int32} {cs : Nat → Int32} {P : Nat} (hw : pp_wf (pp_ti f) (pp_ti s)) (hN : pp_Nb f s (nI P) wo ba) (hP : P = (pp_PL (pp_ti f) (pp_ti s)).length) (h142 : P ≤ 142) (hc : pp_CC f s cnt cs) : ∀ (d k : Nat) (x1 x2 sz : Int32) (li : Nat → Int32), k + d = P → (∀ (sz : Int32) (li : Nat → Int32), post ((List.range' k d).foldl (fun z k => pp_xH cs z (pp_at' f s k)) (x1, x2)).1 (num, nI P, op, sz, f, s, wo, ba, cnt, li, co)) → wX_hottest_11 post (d + 1) x1 x2 (nI k) num (nI P) op sz f s wo ba cnt li co := by
  intro d
  induction d with
  | zero =>
    intro k x1 x2 sz li hk h
    rw [wX_hottest_11]
    exact br_t (nI_le (by omega) (by omega)) (h sz li)
  | succ d ih =>
    intro k x1 x2 sz li hk h
    rw [wX_hottest_11]
    have hp := pp_at'_e (f := f) (s := s) (k := k) (by omega)
    have h6 : k < 160 := by omega
    have hck := hc k _ hp
    simp only [xw_cl6 h6, hck]
    have h' : ∀ (sz : Int32) (li : Nat → Int32), post ((List.range' (k + 1) d).foldl (fun z k => pp_xH cs z (pp_at' f s k)) (pp_xH cs (x1, x2) (pp_at' f s k))).1 (num, nI P, op, sz, f, s, wo, ba, cnt, li, co) := h
    unfold pp_xH at h'
    dsimp only at h'
    have h := h'
    have st : (∀ (sz : Int32) (li : Nat → Int32), post ((List.range' (k + 1) d).foldl (fun z k => pp_xH cs z (pp_at' f s k)) (nI (pp_code (pp_at' f s k)), cs (pp_so (pp_at' f s k)))).1 (num, nI P, op, sz, f, s, wo, ba, cnt, li, co)) → ∀ (sz : Int32) (li : Nat → Int32), wX_hottest_61 post (wX_hottest_11 post (d + 1)) (nI k) (nI (pp_code (pp_at' f s k))) num (nI P) op sz f s wo ba cnt li co := by
      intro h sz li
      refine xw_h61 h6 ?_
      rw [hck]
      exact ih (k + 1) _ _ _ _ (by omega) h
    refine br_f (nI_ge (by omega) (by omega)) ⟨xw_in6 h6, br_c (fun c0 => nm_r (nI_1 k) (ih (k + 1) _ _ _ _ (by omega) ?_)) (fun c0 => ⟨xw_in6 h6, br_c (fun c1 => nm_r (nI_1 k) (ih (k + 1) _ _ _ _ (by omega) ?_)) (fun c1 => xw_codeOf hw hN hp (fun sz li => ⟨xw_in6 h6, ?_⟩))⟩)⟩
    · intro sz li
      have h := h sz li
      rw [if_pos c0] at h
      exact h
    · intro sz li
      have h := h sz li
      rw [if_neg c0, if_pos c1] at h
      exact h
    · dsimp only
      rw [hck]
      refine br_c (fun c2 => st ?_ _ _) (fun c2 => br_c (fun c3 => nm_r (nI_1 k) (ih (k + 1) _ _ _ _ (by omega) ?_)) (fun c3 => st ?_ _ _))
      · intro sz li
        have h := h sz li
        rw [if_neg c0, if_neg c1, if_pos c2] at h
        exact h
      · intro sz li
        have h := h sz li
        rw [if_neg c0, if_neg c1, if_neg c2, if_pos c3] at h
        exact h
      · intro sz li
        have h := h sz li
        rw [if_neg c0, if_neg c1, if_neg c2, if_neg c3] at h
        exact h
end
section
/-! X's path: all codes in order, each goes down to its place -/
theorem pp_snoc {A : List Nat} {n : Nat} (h : A.length = n + 1) : ∃ A' y, A = A' ++ [y] ∧ A'.length = n := by
  rcases List.eq_nil_or_concat A with e | ⟨A', y, e⟩
  · rw [e] at h; cases h
  · rw [List.concat_eq_append] at e
    refine ⟨A', y, e, ?_⟩
    rw [e, List.length_append, List.length_singleton] at h
    omega
theorem xw_p42 {post : Int32 → SX → Prop} {J : Int32 → Int32 → Int32 → Int32 → Int32 → (Nat → Int32) → (Nat → Int32) → (Nat → Int32) → (Nat → Int32) → (Nat → Int32) → (Nat → Int32) → (Nat → Int32) → Prop} {num pa op sz : Int32} {f s wo ba cnt li : Nat → Int32} {x1 : Int32} {i : Nat} {L : List Nat} (hL : ∀ y, y ∈ L → y < 2 ^ 31) (h160 : L.length ≤ 160)
    (K : ∀ (co : Nat → Int32) (l : List Nat), l.Pairwise (fun a b => a ≤ b) → l.Perm L → pp_hl co 0 l → J (nI (i + 1)) num pa op sz f s wo ba cnt li co) :
    ∀ (n : Nat) (A B : List Nat) (x : Nat) (co : Nat → Int32), A.length = n → (A ++ B).Pairwise (fun a b => a ≤ b) → (∀ y, y ∈ B → x ≤ y) → (A ++ x :: B).Perm L → pp_hl co 0 (A ++ x :: B) → wX_path_42 post J x1 (nI i) num pa op sz (n + 1) (nI n) f s wo ba cnt li co := by
  intro n
  induction n with
  | zero =>
    intro A B x co hA hs hx hp hl
    have e : A = [] := List.eq_nil_of_length_eq_zero hA
    subst e
    rw [wX_path_42]
    refine br_t (by decide) (nm_r (nI_1 i) (K co _ ?_ hp hl))
    exact List.pairwise_cons.mpr ⟨hx, hs⟩
  | succ n ih =>
    intro A B x co hA hs hx hp hl
    obtain ⟨A', y, rfl, hA'⟩ := pp_snoc hA
    have hn : n + 1 < 160 := by
      have := hp.length_eq
      rw [List.length_append, List.length_append, List.length_singleton, List.length_cons] at this
      omega
    have hn0 : n < 160 := by omega
    rw [wX_path_42]
    have hl' := hl
    rw [List.append_assoc, pp_hl_app, Nat.zero_add, hA', List.singleton_append, pp_hl, pp_hl] at hl'
    obtain ⟨a1, a2, a3, a4⟩ := hl'
    have hx31 : x < 2 ^ 31 := hL x (hp.subset (List.mem_append_right _ List.mem_cons_self))
    have hy31 : y < 2 ^ 31 := hL y (hp.subset (List.mem_append_left _ (List.mem_append_right _ List.mem_cons_self)))
    simp only [nI_pred, xw_cl6 hn, xw_cl6 hn0]
    rw [a2, a3, nI_leI hy31 hx31, pk_m1]
    refine br_f (nI_nle (by omega) (by omega)) ⟨xw_in6 hn, xw_in6 hn0, br_c (fun c => nm_r (nI_1 i) (K co _ ?_ hp hl)) (fun c => ⟨xw_in6 hn, nm_e ⟨xw_in6 hn0, xw_in6 hn, nm_e ⟨xw_in6 hn0, nm_e (nm_e (ih A' (y :: B) x _ hA' ?_ ?_ ?_ ?_))⟩⟩⟩)⟩
    · have hs2 := hs
      rw [List.pairwise_append] at hs2
      obtain ⟨s1, s2, s3⟩ := hs2
      rw [List.pairwise_append] at s1
      refine List.pairwise_append.mpr ⟨List.pairwise_append.mpr s1, List.pairwise_cons.mpr ⟨hx, s2⟩, ?_⟩
      intro a ha b hb
      have hay : a ≤ y := by
        rcases List.mem_append.mp ha with z | z
        · exact s1.2.2 a z y List.mem_cons_self
        · rw [List.mem_singleton] at z
          omega
      rcases List.mem_cons.mp hb with z | z
      · omega
      · exact s3 a ha b z
    · rw [List.append_assoc, List.singleton_append] at hs
      exact hs
    · intro z hz
      rcases List.mem_cons.mp hz with e | e
      · omega
      · exact hx z e
    · refine List.Perm.trans ?_ hp
      rw [List.append_assoc, List.singleton_append]
      exact List.Perm.append_left A' (List.Perm.swap y x B)
    · rw [pp_hl_app, Nat.zero_add, hA', pp_hl, pp_hl]
      refine ⟨pp_hl_upd _ _ (by omega) (pp_hl_upd _ _ (by omega) a1), pk_us, ?_, pp_hl_upd _ _ (by omega) (pp_hl_upd _ _ (by omega) a4)⟩
      rw [pk_un (by omega), pk_us]
theorem xw_p21 {post : Int32 → SX → Prop} {num op : Int32} {f s wo ba cnt : Nat → Int32} {x1 : Int32} {P : Nat} (hw : pp_wf (pp_ti f) (pp_ti s)) (hN : pp_Nb f s (nI P) wo ba) (hP : P = (pp_PL (pp_ti f) (pp_ti s)).length) (h142 : P ≤ 142)
    (K : ∀ (sz : Int32) (li co : Nat → Int32) (l : List Nat), l.Pairwise (fun a b => a ≤ b) → l.Perm ((pp_PL (pp_ti f) (pp_ti s)).map pp_code) → pp_hl co 0 l → vp_in x1 160 ∧ post (co x1.toNatClampNeg) (num, nI P, op, sz, f, s, wo, ba, cnt, li, co)) :
    ∀ (d k : Nat) (sz : Int32) (li co : Nat → Int32) (l : List Nat), k + d = P → l.Pairwise (fun a b => a ≤ b) → l.Perm (((pp_PL (pp_ti f) (pp_ti s)).take k).map pp_code) → pp_hl co 0 l → wX_path_21 post x1 (d + 1) (nI k) num (nI P) op sz f s wo ba cnt li co := by
  intro d
  induction d with
  | zero =>
    intro k sz li co l hk hs hp hl
    rw [wX_path_21]
    rw [List.take_of_length_le (by omega)] at hp
    exact br_t (nI_le (by omega) (by omega)) (K sz li co l hs hp hl)
  | succ d ih =>
    intro k sz li co l hk hs hp hl
    rw [wX_path_21]
    have hk2 : k < (pp_PL (pp_ti f) (pp_ti s)).length := by omega
    have hq := pp_at'_e (f := f) (s := s) (k := k) hk2
    have h6 : k < 160 := by omega
    have hlen : l.length = k := by
      rw [hp.length_eq, List.length_map, List.length_take]
      omega
    have et : (pp_PL (pp_ti f) (pp_ti s)).take (k + 1) = (pp_PL (pp_ti f) (pp_ti s)).take k ++ [pp_at' f s k] := by
      rw [List.take_succ_eq_append_getElem hk2]
      have e2 : (pp_PL (pp_ti f) (pp_ti s))[k] = pp_at' f s k := (List.getElem?_eq_some_iff.mp hq).2
      rw [e2]
    refine br_f (nI_ge (by omega) (by omega)) (xw_codeOf hw hN hq (fun sz li => ?_))
    dsimp only
    rw [xw_cl6 h6]
    refine ⟨xw_in6 h6, nm_e ⟨k + 1, xw_p42 (L := ((pp_PL (pp_ti f) (pp_ti s)).take (k + 1)).map pp_code) ?_ ?_ ?_ k l [] (pp_code (pp_at' f s k)) _ hlen ?_ ?_ ?_ ?_⟩⟩
    · intro y hy
      obtain ⟨p, hp, rfl⟩ := List.mem_map.mp hy
      exact pp_code_31 (pp_PL_srt hw (List.mem_of_mem_take hp))
    · rw [List.length_map, List.length_take]
      omega
    · intro co l' s1 s2 s3
      exact ih (k + 1) sz li co l' (by omega) s1 s2 s3
    · rw [List.append_nil]
      exact hs
    · intro y hy
      cases hy
    · rw [et, List.map_append]
      exact List.Perm.append_right _ hp
    · have := pp_hl_snoc (x := pp_code (pp_at' f s k)) hl
      rw [Nat.zero_add, hlen] at this
      exact this
end
section
/-! run, both sides in lockstep -/
def pp_CR (f s cnt cs : Nat → Int32) (B : Nat) : Prop :=
  pp_CC f s cnt cs ∧ (∀ n, n < 512 → ¬ pp_Y (pp_ti f) (pp_ti s) n = true → cs n = 0) ∧ (∀ n, n < 512 → ∃ c, c ≤ B ∧ cs n = nI c)
theorem pp_CR_up {f s cnt cs : Nat → Int32} {B C : Nat} (hBC : B ≤ C) (h : pp_CR f s cnt cs B) : pp_CR f s cnt cs C := by
  refine ⟨h.1, h.2.1, fun n hn => ?_⟩
  obtain ⟨c, h1, h2⟩ := h.2.2 n hn
  exact ⟨c, by omega, h2⟩
theorem pp_CR_inc {f s cnt cs : Nat → Int32} {B number : Nat} {p : List Nat} (hw : pp_wf (pp_ti f) (pp_ti s)) (hp : (pp_PL (pp_ti f) (pp_ti s))[number]? = some p) (h : pp_CR f s cnt cs B) :
    pp_CR f s (upd cnt number (cnt number + 1)) (upd cs (pp_so p) (cs (pp_so p) + 1)) (B + 1) := by
  have hm := List.mem_of_getElem? hp
  obtain ⟨h1, h2, h3⟩ := h
  refine ⟨?_, ?_, ?_⟩
  · intro j q hq
    by_cases e : j = number
    · subst e
      rw [hp] at hq
      cases hq
      rw [pk_us, pk_us, h1 _ _ hp]
    · have ne : pp_so q ≠ pp_so p := by
        intro z
        have z := pp_so_inj (pp_PL_srt hw (List.mem_of_getElem? hq)) (pp_PL_srt hw hm) z
        subst z
        exact e ((List.getElem?_inj (pp_some_lt hq) (pp_nodup hw)).mp (hq.trans hp.symm))
      rw [pk_un e, pk_un ne, h1 _ _ hq]
  · intro n hn hY
    have ne : n ≠ pp_so p := by
      intro z
      rw [z] at hY
      exact hY (pp_Y_so hw hm)
    rw [pk_un ne]
    exact h2 n hn hY
  · intro n hn
    by_cases e : n = pp_so p
    · subst e
      obtain ⟨c, g1, g2⟩ := h3 _ hn
      refine ⟨c + 1, by omega, ?_⟩
      rw [pk_us, g2, nI_1]
    · obtain ⟨c, g1, g2⟩ := h3 n hn
      exact ⟨c, by omega, by rw [pk_un e]; exact g2⟩
/-- where the walk stands: the paths that go on from here have the numbers from 'number' on -/
def pp_pos (f s : Nat → Int32) (number : Nat) (pre : List Nat) (b : Nat) : Prop := ∀ (j : Nat) (q : List Nat), (pp_LL (pp_ti f) (pp_ti s) b)[j]? = some q → (pp_PL (pp_ti f) (pp_ti s))[number + j]? = some (pre ++ q)
theorem pp_pos_lt {f s : Nat → Int32} {number b : Nat} {pre : List Nat} (hw : pp_wf (pp_ti f) (pp_ti s)) (hb : b < 9) (h : pp_pos f s number pre b) : number < 142 := by
  have w := (pp_W_le hw 9 b hb (by omega)).2
  have w : 0 < (pp_LL (pp_ti f) (pp_ti s) b).length := w
  have e := h 0 _ (List.getElem?_eq_getElem w)
  have l := pp_some_lt e
  have := pp_PL_len hw
  omega
theorem pp_pos_f {f s : Nat → Int32} {number b c : Nat} {pre : List Nat} (hw : pp_wf (pp_ti f) (pp_ti s)) (hb : b < 9) (hc : b < c) (h : (f b).toInt = (c : Int) ∨ (s b).toInt = (c : Int)) (hp : pp_pos f s number pre b) : pp_pos f s (number + pp_add (pp_ti f) (pp_ti s) b (c : Int)) (pre ++ [b]) c := by
  intro j q hq
  have e := hp _ _ (pp_at hw hb hc h hq)
  rw [List.append_assoc, Nat.add_assoc]
  exact e
theorem pp_pos_b {f s : Nat → Int32} {c : Nat} (hc : c < 9) (h : pp_hd (pp_ti f) (pp_ti s) c = true) : pp_pos f s (pp_base (pp_ti f) (pp_ti s) c) [] c := by
  intro j q hq
  exact pp_hpos 9 c j q hc h hq
theorem pp_srt_snoc {p : List Nat} {b c : Nat} (h : pp_srt (p ++ [b])) (hc : b < c) (h9 : c < 9) : pp_srt ((p ++ [b]) ++ [c]) ∧ pp_so (p ++ [b]) < 2 ^ c := by
  obtain ⟨h1, h2⟩ := h
  have le : ∀ x, x ∈ p ++ [b] → x ≤ b := by
    intro x hx
    rcases List.mem_append.mp hx with z | z
    · have := (List.pairwise_append.mp h1).2.2 x z b List.mem_cons_self
      omega
    · rw [List.mem_singleton] at z
      omega
  refine ⟨⟨List.pairwise_append.mpr ⟨h1, List.pairwise_singleton _ _, ?_⟩, ?_⟩, ?_⟩
  · intro x hx y hy
    have := le x hx
    rw [List.mem_singleton] at hy
    omega
  · intro x hx
    rcases List.mem_append.mp hx with z | z
    · exact h2 x z
    · rw [List.mem_singleton] at z
      omega
  · have := pp_so_lt' (p ++ [b]) 0 c h1 (fun x hx => ⟨Nat.zero_le _, by have := le x hx; omega⟩) (by omega)
    rw [Nat.pow_zero] at this
    omega
theorem yw_or : ∀ c, c < 9 → ∀ a, a < 2 ^ c → nI a ||| ((1 : Int32) <<< (nI c &&& 31)) = nI (a + 2 ^ c) := by decide +kernel
theorem yw_shl : ∀ c, c < 9 → ((1 : Int32) <<< (nI c &&& 31)) = nI (2 ^ c) := by decide +kernel
/-! X's move -/
theorem xw_187 {post : Int32 → SX → Prop} {J : Int32 → Int32 → Int32 → Int32 → Int32 → Int32 → Int32 → (Nat → Int32) → (Nat → Int32) → (Nat → Int32) → (Nat → Int32) → (Nat → Int32) → (Nat → Int32) → (Nat → Int32) → Prop} {num pa op sz : Int32} {f s wo ba cnt li co : Nat → Int32} {x4 x5 x6 x7 : Int32} {i c : Nat} (hc : c < 9)
    (h : J (nI c) x4 x5 x6 x7 (pp_b (decide (0 ≤ (f c).toInt))) (nI (i + 1)) f s wo ba cnt li co) : wX_run_187 post J x4 x5 x6 x7 (nI i) (nI c) num pa op sz f s wo ba cnt li co := by
  unfold wX_run_187
  simp only [xw_cl hc]
  refine ⟨xw_in hc, br_c (fun g => nm_r (nI_1 i) ?_) (fun g => nm_r (nI_1 i) ?_)⟩
  · rw [xw_lt0] at g
    rw [pp_b0 (by rw [decide_eq_true_eq]; omega)] at h
    exact h
  · rw [xw_lt0] at g
    rw [pp_b1 (decide_eq_true (by omega))] at h
    exact h
theorem xw_mvF {post : Int32 → SX → Prop} {J : Int32 → Int32 → Int32 → Int32 → Int32 → Int32 → Int32 → (Nat → Int32) → (Nat → Int32) → (Nat → Int32) → (Nat → Int32) → (Nat → Int32) → (Nat → Int32) → (Nat → Int32) → Prop} {num pa op sz : Int32} {f s wo ba cnt li co : Nat → Int32} {x5 x6 : Int32} {i arcs b c number : Nat} (hb : b < 9) (hc : c < 9) (hbc : b < c) (hf : (f b).toInt ≤ 8)
    (hwo : ∀ c, c < 9 → wo c = nI (pp_W (pp_ti f) (pp_ti s) c)) (h : J (nI c) (nI (number + pp_add (pp_ti f) (pp_ti s) b (c : Int))) x5 x6 (nI (arcs + 1)) (pp_b (decide (0 ≤ (f c).toInt))) (nI (i + 1)) f s wo ba cnt li co) : wX_run_129 post J (nI b) (nI number) x5 x6 (nI arcs) 1 (nI i) (nI c) num pa op sz f s wo ba cnt li co := by
  unfold wX_run_129
  have et := xw_nIt hc
  refine br_f xw_1 (nm_r (nI_1 arcs) (xw_back hb (fun _ g => absurd g (by rw [et]; omega)) (fun _ => br_t rfl (xw_added hb hf (fun c _ h => hwo c h) (nm_r (nI_add _ _) (xw_187 hc ?_))))))
  rw [et]
  exact h
theorem xw_mvB {post : Int32 → SX → Prop} {J : Int32 → Int32 → Int32 → Int32 → Int32 → Int32 → Int32 → (Nat → Int32) → (Nat → Int32) → (Nat → Int32) → (Nat → Int32) → (Nat → Int32) → (Nat → Int32) → (Nat → Int32) → Prop} {num pa op sz : Int32} {f s wo ba cnt li co : Nat → Int32} {x5 x6 : Int32} {i arcs b c number : Nat} (hb : b < 9) (hc : c < 9) (hbc : c ≤ b) (hn : number < 142)
    (hba : ba c = nI (pp_base (pp_ti f) (pp_ti s) c)) (h : J (nI c) (nI (pp_base (pp_ti f) (pp_ti s) c)) x5 x6 (nI (arcs + 1)) (pp_b (decide (0 ≤ (f c).toInt))) (nI (i + 1)) f s wo ba (upd cnt number (cnt number + 1)) li co) : wX_run_129 post J (nI b) (nI number) x5 x6 (nI arcs) 1 (nI i) (nI c) num pa op sz f s wo ba cnt li co := by
  unfold wX_run_129
  have et := xw_nIt hc
  have h6 : number < 160 := by omega
  have hv := xw_in6 h6
  rw [xw_cl6 h6, xw_cl hc]
  refine br_f xw_1 (nm_r (nI_1 arcs) (xw_back hb (fun _ _ => br_f xw_1 ⟨hv, hv, nm_e ⟨xw_in hc, nm_r hba (xw_187 hc h)⟩⟩) (fun g => absurd ?_ g)))
  rw [et]
  omega
/-! Y's move -/
theorem yw_159 {post : Int32 → SY → Prop} {J : Int32 → Int32 → Int32 → Int32 → Int32 → (Nat → Int32) → (Nat → Int32) → (Nat → Int32) → Prop} {un : Int32} {f s cs : Nat → Int32} {x1 x2 x6 z0 : Int32} {arcs c : Nat} (hc : c < 9) (ha : arcs < 40)
    (h : J (nI c) z0 (nI (arcs + 1)) x6 (pp_b (decide (arcs + 1 < 40 ∧ 0 ≤ (f c).toInt))) f s cs) : wY_run_159 post J x1 x2 (nI arcs) x6 (nI c) z0 un f s cs := by
  unfold wY_run_159
  refine nm_r (nI_1 arcs) ?_
  by_cases e : arcs + 1 < 40
  · refine br_f (nI_ge (b := 40) e (by decide)) ?_
    refine yw_succ hc (fun g => br_t (by decide) ?_) (fun g _ => br_f (by decide) ?_) (fun g _ => br_f (by decide) ?_)
    · rw [pp_b0 (by rw [decide_eq_true_eq]; omega)] at h
      exact h
    · rw [pp_b1 (decide_eq_true ⟨e, g⟩)] at h
      exact h
    · rw [pp_b1 (decide_eq_true ⟨e, g⟩)] at h
      exact h
  · rw [pp_b0 (by rw [decide_eq_true_eq]; omega)] at h
    exact br_t (nI_le (a := 40) (by omega) (by omega)) h
theorem yw_mvF {post : Int32 → SY → Prop} {J : Int32 → Int32 → Int32 → Int32 → Int32 → (Nat → Int32) → (Nat → Int32) → (Nat → Int32) → Prop} {un : Int32} {f s cs : Nat → Int32} {x1 x2 x6 : Int32} {arcs b c set : Nat} (hb : b < 9) (hc : c < 9) (hbc : b < c) (ha : arcs < 40) (hs : set < 2 ^ c) (h5 : set < 512)
    (h : J (nI c) (nI (set + 2 ^ c)) (nI (arcs + 1)) x6 (pp_b (decide (arcs + 1 < 40 ∧ 0 ≤ (f c).toInt))) f s cs) : wY_run_102 post J x1 x2 (nI b) (nI set) (nI arcs) x6 1 (nI c) un f s cs := by
  unfold wY_run_102
  have hv := yw_in h5
  have lt : nI b < nI c := nI_lt hbc (by omega)
  have k : wY_run_138 post J x1 x2 (nI b) (nI set) (nI arcs) x6 (nI c) (cs set) (nI set) un f s cs := by
    unfold wY_run_138
    rw [yw_cl h5, yw_or c hc set hs]
    have e : upd cs set (cs set) = cs := by
      funext j
      by_cases z : j = set
      · rw [z, pk_us]
      · rw [pk_un z]
    rw [e]
    exact ⟨hv, nm_e (br_t lt (yw_159 hc ha h))⟩
  rw [yw_cl h5]
  exact br_f xw_1 (br_t lt ⟨hv, k⟩)
theorem yw_mvB {post : Int32 → SY → Prop} {J : Int32 → Int32 → Int32 → Int32 → Int32 → (Nat → Int32) → (Nat → Int32) → (Nat → Int32) → Prop} {un : Int32} {f s cs : Nat → Int32} {x1 x2 x6 : Int32} {arcs b c set : Nat} (hb : b < 9) (hc : c < 9) (hbc : c ≤ b) (ha : arcs < 40) (h5 : set < 512)
    (h : J (nI c) (nI (2 ^ c)) (nI (arcs + 1)) x6 (pp_b (decide (arcs + 1 < 40 ∧ 0 ≤ (f c).toInt))) f s (upd cs set (cs set + 1))) : wY_run_102 post J x1 x2 (nI b) (nI set) (nI arcs) x6 1 (nI c) un f s cs := by
  unfold wY_run_102
  have hv := yw_in h5
  have lt : ¬ nI b < nI c := nI_nlt hbc (by omega)
  have k : wY_run_138 post J x1 x2 (nI b) (nI set) (nI arcs) x6 (nI c) (cs set + 1) (nI set) un f s cs := by
    unfold wY_run_138
    rw [yw_cl h5, yw_shl c hc]
    exact ⟨hv, nm_e (br_f lt (yw_159 hc ha h))⟩
  rw [yw_cl h5]
  exact br_f xw_1 (br_f lt ⟨hv, k⟩)
/-! choices -/
theorem rw_sh0 (x : Int32) : x >>> (nI 0 &&& 31) = x := by
  apply Int32.toInt_inj.mp
  rw [pk_shr _ _ 0 (s_l 0 (by decide))]
  exact Int.shiftRight_zero _
theorem rw_shs (x : Int32) {u : Nat} (h : u < 31) : (x >>> (nI u &&& 31)) >>> ((1 : Int32) &&& 31) = x >>> (nI (u + 1) &&& 31) := by
  apply Int32.toInt_inj.mp
  rw [pk_shr _ _ 1 (by decide), pk_shr _ _ u (s_l u (by omega)), pk_shr _ _ (u + 1) (s_l (u + 1) (by omega)), ← Int.shiftRight_add]
theorem rw_bit (w : Int32) : w &&& 1 = 1 ∨ w &&& 1 = 0 := by
  have e := pk_and w (m := 1) 1 (by decide)
  rw [e]
  have : w.toBitVec.toNat % 2 ^ 1 = 0 ∨ w.toBitVec.toNat % 2 ^ 1 = 1 := by omega
  rcases this with z | z
  · right; rw [z]; rfl
  · left; rw [z]; rfl
/-! the run's end -/
theorem rw_term {num pa op sz : Int32} {f s wo ba cnt li co : Nat → Int32} {cs : Nat → Int32} {b number B : Nat} {pre : List Nat} {r : Int32} (hw : pp_wf (pp_ti f) (pp_ti s)) (hb : b < 9) (hp : pp_pos f s number pre b) (hs : pp_srt (pre ++ [b])) (hC : pp_CR f s cnt cs B) :
    ∃ (op' : Int32) (cnt' cs' : Nat → Int32), pp_CR f s cnt' cs' (B + 1) ∧ (∀ post : Int32 → SX → Prop, post r (num, pa, op', sz, f, s, wo, ba, cnt', li, co) → wX_run_212 post (nI b) (nI number) r num pa op sz f s wo ba cnt li co)
      ∧ (∀ (post : Int32 → SY → Prop) (ch many x6 : Int32) (n : Nat), post r (op', f, s, cs') → wY_run_38 post ch many op (n + 1) (nI b) (nI (pp_so (pre ++ [b]))) r x6 0 f s cs) := by
  have h142 := pp_pos_lt hw hb hp
  have h6 : number < 160 := by omega
  have h5 := pp_so_lt hs
  have hv := xw_in hb
  by_cases g : 0 ≤ (f b).toInt
  · refine ⟨op + 1, cnt, cs, pp_CR_up (by omega) hC, fun post h => ?_, fun post ch many x6 n h => ?_⟩
    · unfold wX_run_212
      rw [xw_cl hb]
      exact ⟨hv, br_t (xw_0le.mpr g) (nm_e h)⟩
    · rw [wY_run_38]
      exact br_t rfl (yw_succ hb (fun z => by omega) (fun _ _ => br_f xw_1 (nm_e h)) (fun _ _ => br_f (by decide) (nm_e h)))
  · have en : pp_en (pp_ti f) (pp_ti s) b = true := xw_en.mpr (by omega)
    have hq := hp 0 _ (pp_at0 hw hb en)
    refine ⟨op, _, _, pp_CR_inc hw hq hC, fun post h => ?_, fun post ch many x6 n h => ?_⟩
    · unfold wX_run_212
      rw [xw_cl hb, xw_cl6 h6]
      exact ⟨hv, br_f (fun z => g (xw_0le.mp z)) ⟨xw_in6 h6, xw_in6 h6, nm_e h⟩⟩
    · rw [wY_run_38]
      dsimp only
      rw [yw_cl h5]
      exact br_t rfl (yw_succ hb (fun _ => br_t rfl ⟨yw_in h5, yw_in h5, nm_e h⟩) (fun z _ => absurd z g) (fun z _ => absurd z g))
end
section
/-! the run's loop, both sides: one outcome -/
theorem rw_lock {num pa op sz : Int32} {f s wo ba li co : Nat → Int32} (hw : pp_wf (pp_ti f) (pp_ti s)) (hwo : ∀ c, c < 9 → wo c = nI (pp_W (pp_ti f) (pp_ti s) c)) (hba : ∀ c, c < 9 → ba c = if pp_hd (pp_ti f) (pp_ti s) c = true then nI (pp_base (pp_ti f) (pp_ti s) c) else -4) {ch : Int32} {many : Nat} (hm : many ≤ 24) :
    ∀ (d arcs b number used B : Nat) (pre : List Nat) (cnt cs : Nat → Int32), arcs + d = 40 → b < 9 → pp_pos f s number pre b → pp_srt (pre ++ [b]) → used ≤ many → pp_CR f s cnt cs B →
      ∃ (r op' : Int32) (cnt' cs' : Nat → Int32), pp_CR f s cnt' cs' (B + d + 1)
        ∧ (∀ post : Int32 → SX → Prop, post r (num, pa, op', sz, f, s, wo, ba, cnt', li, co) → wX_run_54 post num pa op sz (d + 1) (nI b) (nI number) (nI (many - used)) (ch >>> (nI used &&& 31)) (nI arcs) (pp_b (decide (0 ≤ (f b).toInt))) (nI arcs) f s wo ba cnt li co)
        ∧ (∀ post : Int32 → SY → Prop, post r (op', f, s, cs') → wY_run_38 post ch (nI many) op (d + 1) (nI b) (nI (pp_so (pre ++ [b]))) (nI arcs) (nI used) (pp_b (decide (arcs < 40 ∧ 0 ≤ (f b).toInt))) f s cs) := by
  intro d
  induction d with
  | zero =>
    intro arcs b number used B pre cnt cs ha hb hp hs hu hC
    obtain ⟨op', cnt', cs', hC', hX, hY⟩ := rw_term (num := num) (pa := pa) (op := op) (sz := sz) (wo := wo) (ba := ba) (li := li) (co := co) (r := nI arcs) hw hb hp hs hC
    refine ⟨nI arcs, op', cnt', cs', hC', fun post h => ?_, fun post h => ?_⟩
    · rw [wX_run_54]
      exact br_t (nI_le (a := 40) (by omega) (by omega)) (hX post h)
    · rw [pp_b0 (by rw [decide_eq_true_eq]; omega)]
      exact hY post _ _ _ _ h
  | succ d ih =>
    intro arcs b number used B pre cnt cs ha hb hp hs hu hC
    obtain ⟨w1, w2, w3, w4, w5, w6⟩ := hw b hb
    have w1 : -1 ≤ (f b).toInt := w1
    have w2 : (f b).toInt ≤ 8 := w2
    have w3 : -1 ≤ (s b).toInt := w3
    have w4 : (s b).toInt ≤ 8 := w4
    have h142 := pp_pos_lt hw hb hp
    have h5 := pp_so_lt hs
    have hv := xw_in hb
    have a40 : ¬ (40 : Int32) ≤ nI arcs := nI_ge (b := 40) (by omega) (by decide)
    obtain ⟨op', cnt', cs', hC', hX, hY⟩ := rw_term (num := num) (pa := pa) (op := op) (sz := sz) (wo := wo) (ba := ba) (li := li) (co := co) (r := nI arcs) hw hb hp hs hC
    by_cases g : 0 ≤ (f b).toInt
    · have mv : ∀ (c used' : Nat), c < 9 → ((f b).toInt = (c : Int) ∨ (s b).toInt = (c : Int)) → used' ≤ many →
          ∃ (r op' : Int32) (cnt' cs' : Nat → Int32), pp_CR f s cnt' cs' (B + (d + 1) + 1)
            ∧ (∀ post : Int32 → SX → Prop, post r (num, pa, op', sz, f, s, wo, ba, cnt', li, co) → wX_run_129 post (wX_run_54 post num pa op sz (d + 1)) (nI b) (nI number) (nI (many - used')) (ch >>> (nI used' &&& 31)) (nI arcs) 1 (nI arcs) (nI c) num pa op sz f s wo ba cnt li co)
            ∧ (∀ post : Int32 → SY → Prop, post r (op', f, s, cs') → wY_run_102 post (wY_run_38 post ch (nI many) op (d + 1)) ch (nI many) (nI b) (nI (pp_so (pre ++ [b]))) (nI arcs) (nI used') 1 (nI c) op f s cs) := by
        intro c used' hc hfs hu'
        rcases Nat.lt_or_ge b c with l | l
        · have ⟨s1, s2⟩ := pp_srt_snoc hs l hc
          obtain ⟨r, o2, c2, k2, q1, q2, q3⟩ := ih (arcs + 1) c (number + pp_add (pp_ti f) (pp_ti s) b (c : Int)) used' B (pre ++ [b]) cnt cs (by omega) hc (pp_pos_f hw hb l hfs hp) s1 hu' hC
          refine ⟨r, o2, c2, k2, pp_CR_up (by omega) q1, fun post h => xw_mvF hb hc l w2 hwo (q2 post h), fun post h => yw_mvF hb hc l (by omega) s2 h5 ?_⟩
          have e : pp_so (pre ++ [b] ++ [c]) = pp_so (pre ++ [b]) + 2 ^ c := by
            rw [pp_so_app (pre ++ [b])]
            rfl
          rw [← e]
          exact q3 post h
        · have hh : pp_hd (pp_ti f) (pp_ti s) c = true := pp_hd_iff.mpr (Or.inr ⟨b, hb, l, hfs⟩)
          have en : pp_en (pp_ti f) (pp_ti s) b = true := xw_en.mpr (by omega)
          have hq := hp 0 _ (pp_at0 hw hb en)
          have eb := hba c hc
          rw [if_pos hh] at eb
          have s1 : pp_srt ([] ++ [c]) := ⟨List.pairwise_singleton _ _, fun x hx => by rw [List.nil_append, List.mem_singleton] at hx; omega⟩
          obtain ⟨r, o2, c2, k2, q1, q2, q3⟩ := ih (arcs + 1) c (pp_base (pp_ti f) (pp_ti s) c) used' (B + 1) [] _ _ (by omega) hc (pp_pos_b hc hh) s1 hu' (pp_CR_inc hw hq hC)
          exact ⟨r, o2, c2, k2, pp_CR_up (by omega) q1, fun post h => xw_mvB hb hc l h142 eb (q2 post h), fun post h => yw_mvB hb hc l (by omega) h5 (q3 post h)⟩
      have ef : f b = nI (f b).toInt.toNat := xw_of g
      rw [pp_b1 (decide_eq_true g), pp_b1 (decide_eq_true ⟨by omega, g⟩)]
      by_cases gs : 0 ≤ (s b).toInt
      · have es : s b = nI (s b).toInt.toNat := xw_of gs
        have nlt : ¬ s b < 0 := by rw [xw_lt0]; omega
        by_cases gu : used < many
        · have eL : nI (many - used) + (-1) = nI (many - (used + 1)) := by
            rw [show many - used = many - (used + 1) + 1 by omega]
            exact pk_m1 _
          have hle : ¬ nI (many - used) ≤ 0 := nI_nle (by omega) (by omega)
          have hle2 : ¬ nI many ≤ nI used := nI_ge gu (by omega)
          rcases rw_bit (ch >>> (nI used &&& 31)) with bt | bt
          · obtain ⟨r, o2, c2, k2, q1, q2, q3⟩ := mv (s b).toInt.toNat (used + 1) (by omega) (by omega) (by omega)
            rw [← es] at q2 q3
            refine ⟨r, o2, c2, k2, q1, fun post h => ?_, fun post h => ?_⟩
            · rw [wX_run_54]
              dsimp only
              rw [xw_cl hb]
              refine br_f a40 (br_f xw_1 ⟨hv, nm_e ⟨hv, br_f nlt (br_f hle ?_)⟩⟩)
              unfold wX_run_93
              rw [xw_cl hb]
              refine br_t bt ⟨hv, ?_⟩
              unfold wX_run_118
              exact nm_r (rw_shs ch (by omega)) (nm_r eL (q2 post h))
            · rw [wY_run_38]
              dsimp only
              rw [xw_cl hb]
              refine br_f xw_1 ⟨hv, nm_e ⟨hv, br_f nlt (br_f hle2 ?_)⟩⟩
              unfold wY_run_71
              rw [xw_cl hb]
              refine br_f (by rw [bt]; exact xw_1) ⟨hv, ?_⟩
              unfold wY_run_97
              exact nm_r (nI_1 used) (q3 post h)
          · obtain ⟨r, o2, c2, k2, q1, q2, q3⟩ := mv (f b).toInt.toNat (used + 1) (by omega) (by omega) (by omega)
            rw [← ef] at q2 q3
            refine ⟨r, o2, c2, k2, q1, fun post h => ?_, fun post h => ?_⟩
            · rw [wX_run_54]
              dsimp only
              rw [xw_cl hb]
              refine br_f a40 (br_f xw_1 ⟨hv, nm_e ⟨hv, br_f nlt (br_f hle ?_)⟩⟩)
              unfold wX_run_93
              rw [xw_cl hb]
              refine br_f (by rw [bt]; decide) ⟨hv, ?_⟩
              unfold wX_run_118
              exact nm_r (rw_shs ch (by omega)) (nm_r eL (q2 post h))
            · rw [wY_run_38]
              dsimp only
              rw [xw_cl hb]
              refine br_f xw_1 ⟨hv, nm_e ⟨hv, br_f nlt (br_f hle2 ?_)⟩⟩
              unfold wY_run_71
              rw [xw_cl hb]
              refine br_t bt ⟨hv, ?_⟩
              unfold wY_run_97
              exact nm_r (nI_1 used) (q3 post h)
        · have e : many - used = 0 := by omega
          rw [e]
          have hle2 : nI many ≤ nI used := nI_le (by omega) (by omega)
          refine ⟨nI arcs, op', cnt', cs', pp_CR_up (by omega) hC', fun post h => ?_, fun post h => ?_⟩
          · have k : ∀ x10 : Int32, wX_run_118 post (wX_run_54 post num pa op sz (d + 1)) (nI b) (nI number) (nI 0) (ch >>> (nI used &&& 31)) (nI arcs) 0 (nI arcs) x10 num pa op sz f s wo ba cnt li co := by
              intro x10
              unfold wX_run_118
              refine nm_e (nm_e ?_)
              unfold wX_run_129
              refine br_t rfl (nm_e ?_)
              rw [wX_run_54]
              exact br_c (fun _ => hX post h) (fun _ => br_t rfl (hX post h))
            rw [wX_run_54]
            dsimp only
            rw [xw_cl hb]
            refine br_f a40 (br_f xw_1 ⟨hv, nm_e ⟨hv, br_f nlt (br_t (by decide) ?_)⟩⟩)
            unfold wX_run_93
            exact br_c (fun _ => ⟨hv, k _⟩) (fun _ => ⟨hv, k _⟩)
          · have k : ∀ x8 : Int32, wY_run_97 post (wY_run_38 post ch (nI many) op (d + 1)) ch (nI many) (nI b) (nI (pp_so (pre ++ [b]))) (nI arcs) (nI used) 0 x8 op f s cs := by
              intro x8
              unfold wY_run_97
              refine nm_e ?_
              unfold wY_run_102
              exact br_t rfl (hY post _ _ _ _ h)
            rw [wY_run_38]
            dsimp only
            rw [xw_cl hb]
            refine br_f xw_1 ⟨hv, nm_e ⟨hv, br_f nlt (br_t hle2 ?_)⟩⟩
            unfold wY_run_71
            exact br_c (fun _ => ⟨hv, k _⟩) (fun _ => ⟨hv, k _⟩)
      · have lt : s b < 0 := by rw [xw_lt0]; omega
        obtain ⟨r, o2, c2, k2, q1, q2, q3⟩ := mv (f b).toInt.toNat used (by omega) (by omega) hu
        rw [← ef] at q2 q3
        refine ⟨r, o2, c2, k2, q1, fun post h => ?_, fun post h => ?_⟩
        · rw [wX_run_54]
          dsimp only
          rw [xw_cl hb]
          exact br_f a40 (br_f xw_1 ⟨hv, nm_e ⟨hv, br_t lt (q2 post h)⟩⟩)
        · rw [wY_run_38]
          dsimp only
          rw [xw_cl hb]
          exact br_f xw_1 ⟨hv, nm_e ⟨hv, br_t lt (q3 post h)⟩⟩
    · rw [pp_b0 (by rw [decide_eq_true_eq]; exact g), pp_b0 (by rw [decide_eq_true_eq]; exact fun z => g z.2)]
      refine ⟨nI arcs, op', cnt', cs', pp_CR_up (by omega) hC', fun post h => ?_, fun post h => ?_⟩
      · rw [wX_run_54]
        exact br_f a40 (br_t rfl (hX post h))
      · exact hY post _ _ _ _ h
end
section
/-! the folds of both sides agree -/
theorem pp_fc {β : Type} {f g : β → Nat → β} : ∀ (l : List Nat) (a : β), (∀ z n, n ∈ l → f z n = g z n) → l.foldl f a = l.foldl g a := by
  intro l
  induction l with
  | nil => intro a _; rfl
  | cons x l ih =>
    intro a h
    rw [List.foldl_cons, List.foldl_cons, h a x List.mem_cons_self]
    exact ih _ (fun z n hn => h z n (List.mem_cons_of_mem _ hn))
theorem pp_fci {β : Type} {f g : β → Nat → β} {I : β → Prop} : ∀ (l : List Nat) (a : β), I a → (∀ z n, n ∈ l → I z → f z n = g z n ∧ I (f z n)) → l.foldl f a = l.foldl g a := by
  intro l
  induction l with
  | nil => intro a _ _; rfl
  | cons x l ih =>
    intro a ha h
    obtain ⟨e, i⟩ := h a x List.mem_cons_self ha
    rw [List.foldl_cons, List.foldl_cons, ← e]
    exact ih _ i (fun z n hn => h z n (List.mem_cons_of_mem _ hn))
theorem pp_cadd {g : Int32 → List Nat → Int32} (dl : List Nat → Int32) (h : ∀ z p, g z p = z + dl p) (z : Int32) (p q : List Nat) : g (g z p) q = g (g z q) p := by
  rw [h, h, h, h, Int32.add_assoc, Int32.add_assoc, Int32.add_comm (dl p)]
theorem pp_r5 {n : Nat} (h : n ∈ List.range' 1 511) : n < 512 := by
  have := List.mem_range'_1.mp h
  omega
theorem pp_lenI {α : Type} : ∀ (l : List α) (a : Nat), l.foldl (fun (z : Int32) _ => z + 1) (nI a) = nI (a + l.length) := by
  intro l
  induction l with
  | nil => intro a; rfl
  | cons x l ih =>
    intro a
    rw [List.foldl_cons, nI_1, ih, List.length_cons, show a + 1 + l.length = a + (l.length + 1) by omega]
theorem pq_poss {f s : Nat → Int32} (hw : pp_wf (pp_ti f) (pp_ti s)) : (List.range' 1 511).foldl (pp_yP (pp_ti f) (pp_ti s)) 0 = nI (pp_PL (pp_ti f) (pp_ti s)).length := by
  have e := pp_fold hw (fun (z : Int32) (_ : List Nat) => z + 1) (fun p _ q _ z => rfl) 0
  have e2 := pp_lenI (pp_PL (pp_ti f) (pp_ti s)) 0
  rw [Nat.zero_add] at e2
  have e3 : (pp_PL (pp_ti f) (pp_ti s)).foldl (fun (z : Int32) (_ : List Nat) => z + 1) 0 = nI (pp_PL (pp_ti f) (pp_ti s)).length := e2
  rw [← e3, e]
  exact pp_fc _ _ (fun z n hn => rfl)
section
variable {f s cnt cs : Nat → Int32} {B : Nat}
theorem pq_dist (hw : pp_wf (pp_ti f) (pp_ti s)) (h : pp_CR f s cnt cs B) : (List.range' 1 511).foldl (pp_yD cs) 0 = (pp_PL (pp_ti f) (pp_ti s)).foldl (pp_xD cs) 0 := by
  rw [pp_fold hw (pp_xD cs) (fun p _ q _ z => pp_cadd (fun p => if cs (pp_so p) ≤ 0 then 0 else 1) (fun z p => by
    unfold pp_xD
    by_cases c : cs (pp_so p) ≤ 0
    · rw [if_pos c, if_pos c, Int32.add_zero]
    · rw [if_neg c, if_neg c]) z p q) 0]
  refine pp_fc _ _ (fun z n hn => ?_)
  have h5 := pp_r5 hn
  by_cases y : pp_Y (pp_ti f) (pp_ti s) n = true
  · rw [if_pos y, pp_xD, pp_so_bits n h5, pp_yD]
  · rw [if_neg y, pp_yD, h.2.1 n h5 y]
    exact if_pos (by decide)
theorem pq_gone (hw : pp_wf (pp_ti f) (pp_ti s)) (h : pp_CR f s cnt cs B) : (List.range' 1 511).foldl (pp_yG cs) 0 = (pp_PL (pp_ti f) (pp_ti s)).foldl (pp_xG cs) 0 := by
  rw [pp_fold hw (pp_xG cs) (fun p _ q _ z => pp_cadd (fun p => cs (pp_so p)) (fun z p => rfl) z p q) 0]
  refine pp_fc _ _ (fun z n hn => ?_)
  have h5 := pp_r5 hn
  by_cases y : pp_Y (pp_ti f) (pp_ti s) n = true
  · rw [if_pos y, pp_xG, pp_so_bits n h5, pp_yG]
  · rw [if_neg y, pp_yG, h.2.1 n h5 y, Int32.add_zero]
theorem pq_thro (hw : pp_wf (pp_ti f) (pp_ti s)) {b : Nat} (hb : b < 9) : (List.range' 1 511).foldl (pp_yT (pp_ti f) (pp_ti s) b) 0 = (pp_PL (pp_ti f) (pp_ti s)).foldl (pp_xT b) 0 := by
  rw [pp_fold hw (pp_xT b) (fun p _ q _ z => pp_cadd (fun p => if b ∈ p then 1 else 0) (fun z p => by
    unfold pp_xT
    by_cases c : b ∈ p
    · rw [if_pos c, if_pos c]
    · rw [if_neg c, if_neg c, Int32.add_zero]) z p q) 0]
  refine pp_fc _ _ (fun z n hn => ?_)
  unfold pp_yT pp_xT
  by_cases t : n.testBit b = true
  · rw [if_pos t, if_pos (pp_bits_in.mpr ⟨hb, t⟩)]
  · rw [if_neg t, if_neg (fun z => t (pp_bits_in.mp z).2), ite_self]
theorem pq_le0 (h : pp_CR f s cnt cs B) (hB : B < 2 ^ 31) {n : Nat} (h5 : n < 512) (hl : cs n ≤ 0) : cs n = 0 := by
  obtain ⟨c, h1, h2⟩ := h.2.2 n h5
  rw [h2] at hl
  rcases Nat.eq_zero_or_pos c with z | z
  · rw [h2, z]
    rfl
  · exact absurd hl (nI_nle z (by omega))
theorem pq_visi (hw : pp_wf (pp_ti f) (pp_ti s)) (h : pp_CR f s cnt cs B) (hB : B < 2 ^ 31) {b : Nat} (hb : b < 9) : (List.range' 1 511).foldl (pp_yV cs b) 0 = (pp_PL (pp_ti f) (pp_ti s)).foldl (pp_xV cs b) 0 := by
  rw [pp_fold hw (pp_xV cs b) (fun p _ q _ z => pp_cadd (fun p => if cs (pp_so p) ≤ 0 then 0 else if b ∈ p then cs (pp_so p) else 0) (fun z p => by
    unfold pp_xV
    by_cases c0 : cs (pp_so p) ≤ 0
    · rw [if_pos c0, if_pos c0, Int32.add_zero]
    · rw [if_neg c0, if_neg c0]
      by_cases c : b ∈ p
      · rw [if_pos c, if_pos c]
      · rw [if_neg c, if_neg c, Int32.add_zero]) z p q) 0]
  refine pp_fc _ _ (fun z n hn => ?_)
  have h5 := pp_r5 hn
  unfold pp_yV pp_xV
  rw [pp_so_bits n h5]
  by_cases y : pp_Y (pp_ti f) (pp_ti s) n = true
  · rw [if_pos y]
    by_cases t : n.testBit b = true
    · rw [if_pos t, if_pos (pp_bits_in.mpr ⟨hb, t⟩)]
      by_cases c : cs n ≤ 0
      · rw [if_pos c, pq_le0 h hB h5 c, Int32.add_zero]
      · rw [if_neg c]
    · rw [if_neg t, if_neg (fun z => t (pp_bits_in.mp z).2), ite_self]
  · rw [if_neg y, h.2.1 n h5 y, Int32.add_zero, ite_self]
theorem pq_xA (v w : Int32) (z : Int32) (p q : List Nat) : pp_xA cs v w (pp_xA cs v w z p) q = pp_xA cs v w (pp_xA cs v w z q) p :=
  pp_cadd (fun p => if cs (pp_so p) ≤ 0 then 0 else if pp_adj v w p = true then cs (pp_so p) else 0) (fun z p => by
    unfold pp_xA
    by_cases c0 : cs (pp_so p) ≤ 0
    · rw [if_pos c0, if_pos c0, Int32.add_zero]
    · rw [if_neg c0, if_neg c0]
      by_cases c : pp_adj v w p = true
      · rw [if_pos c, if_pos c]
      · rw [if_neg c, if_neg c, Int32.add_zero]) z p q
/-- Y's mask test is the consecutive pair -/
theorem pq_arc (hw : pp_wf (pp_ti f) (pp_ti s)) (h : pp_CR f s cnt cs B) (hB : B < 2 ^ 31) {v w x3 x4 : Int32} (ha : ∀ n, n < 512 → (nI n &&& x4 = x3 ↔ pp_adj v w (pp_bits n) = true)) : (List.range' 1 511).foldl (pp_yA cs x3 x4) 0 = (pp_PL (pp_ti f) (pp_ti s)).foldl (pp_xA cs v w) 0 := by
  rw [pp_fold hw (pp_xA cs v w) (fun p _ q _ z => pq_xA v w z p q) 0]
  refine pp_fc _ _ (fun z n hn => ?_)
  have h5 := pp_r5 hn
  unfold pp_yA pp_xA
  rw [pp_so_bits n h5]
  have ha := ha n h5
  by_cases y : pp_Y (pp_ti f) (pp_ti s) n = true
  · rw [if_pos y]
    by_cases t : pp_adj v w (pp_bits n) = true
    · rw [if_pos t, if_pos (ha.mpr t)]
      by_cases c : cs n ≤ 0
      · rw [if_pos c, pq_le0 h hB h5 c, Int32.add_zero]
      · rw [if_neg c]
    · rw [if_neg t, if_neg (fun z => t (ha.mp z)), ite_self]
  · rw [if_neg y, h.2.1 n h5 y, Int32.add_zero, ite_self]
theorem pq_arc0 {v w : Int32} (ha : ∀ p, p ∈ pp_PL (pp_ti f) (pp_ti s) → ¬ pp_adj v w p = true) : (pp_PL (pp_ti f) (pp_ti s)).foldl (pp_xA cs v w) 0 = 0 := by
  have k : ∀ (l : List (List Nat)), (∀ p, p ∈ l → ¬ pp_adj v w p = true) → l.foldl (pp_xA cs v w) 0 = 0 := by
    intro l
    induction l with
    | nil => intro _; rfl
    | cons p l ih =>
      intro h
      have e : pp_xA cs v w 0 p = 0 := by
        unfold pp_xA
        rw [if_neg (h p List.mem_cons_self), ite_self]
      rw [List.foldl_cons, e]
      exact ih (fun q hq => h q (List.mem_cons_of_mem _ hq))
  exact k _ ha
end
/-! longest -/
theorem pp_mx (a b z : Int32) : (if b ≤ (if a ≤ z then z else a) then (if a ≤ z then z else a) else b) = (if a ≤ (if b ≤ z then z else b) then (if b ≤ z then z else b) else a) := by
  have t : ∀ x y : Int32, (if x ≤ y then y else x).toInt = if x.toInt ≤ y.toInt then y.toInt else x.toInt := by
    intro x y
    by_cases c : x ≤ y
    · rw [if_pos c, if_pos (Int32.le_iff_toInt_le.mp c)]
    · rw [if_neg c, if_neg (fun z => c (Int32.le_iff_toInt_le.mpr z))]
  apply Int32.toInt_inj.mp
  rw [t, t, t, t]
  generalize a.toInt = a
  generalize b.toInt = b
  generalize z.toInt = z
  omega
theorem pq_long {f s : Nat → Int32} (hw : pp_wf (pp_ti f) (pp_ti s)) : (List.range' 1 511).foldl (pp_yL (pp_ti f) (pp_ti s)) 0 = (pp_PL (pp_ti f) (pp_ti s)).foldl pp_xL 0 := by
  rw [pp_fold hw pp_xL (fun p _ q _ z => pp_mx (nI p.length) (nI q.length) z) 0]
  refine pp_fc _ _ (fun z n hn => ?_)
  unfold pp_yL pp_xL
  by_cases y : pp_Y (pp_ti f) (pp_ti s) n = true
  · rw [if_pos y, if_pos y]
  · rw [if_neg y, if_neg y, ite_self]
/-! hottest -/
def pp_pick (p z : Int32 × Int32) : Int32 × Int32 := if z.2.toInt < p.2.toInt ∨ (z.2.toInt = p.2.toInt ∧ p.1.toInt < z.1.toInt) then p else z
theorem pp_pick_c (p q z : Int32 × Int32) : pp_pick q (pp_pick p z) = pp_pick p (pp_pick q z) := by
  have ex : ∀ x y : Int32 × Int32, x.1.toInt = y.1.toInt → x.2.toInt = y.2.toInt → x = y := by
    intro x y h1 h2
    exact Prod.ext (Int32.toInt_inj.mp h1) (Int32.toInt_inj.mp h2)
  unfold pp_pick
  by_cases c1 : z.2.toInt < p.2.toInt ∨ (z.2.toInt = p.2.toInt ∧ p.1.toInt < z.1.toInt)
  · rw [if_pos c1]
    by_cases c2 : z.2.toInt < q.2.toInt ∨ (z.2.toInt = q.2.toInt ∧ q.1.toInt < z.1.toInt)
    · rw [if_pos c2]
      by_cases c3 : p.2.toInt < q.2.toInt ∨ (p.2.toInt = q.2.toInt ∧ q.1.toInt < p.1.toInt)
      · rw [if_pos c3, if_neg (by omega)]
      · rw [if_neg c3]
        by_cases c4 : q.2.toInt < p.2.toInt ∨ (q.2.toInt = p.2.toInt ∧ p.1.toInt < q.1.toInt)
        · rw [if_pos c4]
        · rw [if_neg c4]
          exact ex p q (by omega) (by omega)
    · rw [if_neg c2, if_pos c1, if_neg (by omega)]
  · rw [if_neg c1]
    by_cases c2 : z.2.toInt < q.2.toInt ∨ (z.2.toInt = q.2.toInt ∧ q.1.toInt < z.1.toInt)
    · rw [if_pos c2, if_neg (by omega)]
    · rw [if_neg c2, if_neg c1]
theorem pp_xH_e {cs : Nat → Int32} (z : Int32 × Int32) (p : List Nat) : pp_xH cs z p = if cs (pp_so p) ≤ 0 then z else pp_pick (nI (pp_code p), cs (pp_so p)) z := by
  unfold pp_xH pp_pick
  dsimp only
  by_cases c0 : cs (pp_so p) ≤ 0
  · rw [if_pos c0, if_pos c0]
  · rw [if_neg c0, if_neg c0]
    simp only [Int32.lt_iff_toInt_lt, Int32.le_iff_toInt_le]
    by_cases c1 : (cs (pp_so p)).toInt < z.2.toInt
    · rw [if_pos c1, if_neg (by omega)]
    · rw [if_neg c1]
      by_cases c2 : z.2.toInt < (cs (pp_so p)).toInt
      · rw [if_pos c2, if_pos (Or.inl c2)]
      · rw [if_neg c2]
        by_cases c3 : z.1.toInt ≤ (nI (pp_code p)).toInt
        · rw [if_pos c3, if_neg (by omega)]
        · rw [if_neg c3, if_pos (by omega)]
theorem pp_xH_c {cs : Nat → Int32} (z : Int32 × Int32) (p q : List Nat) : pp_xH cs (pp_xH cs z p) q = pp_xH cs (pp_xH cs z q) p := by
  rw [pp_xH_e z p, pp_xH_e z q, pp_xH_e, pp_xH_e]
  by_cases c0 : cs (pp_so p) ≤ 0
  · rw [if_pos c0, if_pos c0]
  · rw [if_neg c0, if_neg c0]
    by_cases c1 : cs (pp_so q) ≤ 0
    · rw [if_pos c1, if_pos c1]
    · rw [if_neg c1, if_neg c1]
      exact pp_pick_c _ _ _
theorem pq_hott {f s cnt cs : Nat → Int32} {B : Nat} (hw : pp_wf (pp_ti f) (pp_ti s)) (h : pp_CR f s cnt cs B) : (List.range' 1 511).foldl (pp_yH cs) (-4, 0) = (pp_PL (pp_ti f) (pp_ti s)).foldl (pp_xH cs) (-4, 0) := by
  rw [pp_fold hw (pp_xH cs) (fun p _ q _ z => pp_xH_c z p q) (-4, 0)]
  refine pp_fci (I := fun z => 0 ≤ z.2.toInt) _ _ (by decide) (fun z n hn hz => ?_)
  have h5 := pp_r5 hn
  have e0 : (0 : Int32).toInt = 0 := xw_z0
  unfold pp_yH pp_xH
  rw [pp_so_bits n h5]
  have h2 := h.2.1 n h5
  generalize nI (pp_code (pp_bits n)) = cd
  generalize cs n = c at h2
  simp only [Int32.lt_iff_toInt_lt, Int32.le_iff_toInt_le, e0]
  by_cases y : pp_Y (pp_ti f) (pp_ti s) n = true
  · rw [if_pos y]
    by_cases c1 : z.2.toInt < c.toInt
    · rw [if_pos c1, if_neg (by omega), if_neg (by omega), if_pos c1]
      exact ⟨rfl, by show 0 ≤ c.toInt; omega⟩
    · rw [if_neg c1]
      by_cases c2 : c = z.2
      · subst c2
        rw [if_pos rfl, if_neg c1]
        by_cases c3 : z.2.toInt ≤ 0
        · rw [if_pos c3, if_pos c3]
          exact ⟨rfl, hz⟩
        · rw [if_neg c3, if_neg c3, if_neg c1]
          refine ⟨rfl, ?_⟩
          by_cases c4 : z.1.toInt ≤ cd.toInt
          · rw [if_pos c4]; exact hz
          · rw [if_neg c4]; exact hz
      · rw [if_neg c2]
        have ne : c.toInt ≠ z.2.toInt := fun z => c2 (Int32.toInt_inj.mp z)
        by_cases c3 : c.toInt ≤ 0
        · rw [if_pos c3]
          exact ⟨rfl, hz⟩
        · rw [if_neg c3, if_pos (by omega)]
          exact ⟨rfl, hz⟩
  · have e := h2 y
    subst e
    rw [if_neg y, if_neg (by omega)]
    by_cases c2 : 0 = z.2
    · rw [if_pos c2, if_pos (by rw [← c2]; decide)]
      exact ⟨rfl, hz⟩
    · rw [if_neg c2]
      exact ⟨rfl, hz⟩
/-! ranks -/
theorem pp_cntI {α : Type} (q : α → Bool) {g : Int32 → α → Int32} : ∀ (l : List α), (∀ z x, x ∈ l → g z x = if q x = true then z + 1 else z) → ∀ (a : Nat), l.foldl g (nI a) = nI (a + l.countP q) := by
  intro l
  induction l with
  | nil => intro _ a; rfl
  | cons x l ih =>
    intro h a
    rw [List.foldl_cons, h _ x List.mem_cons_self]
    have ih := ih (fun z y hy => h z y (List.mem_cons_of_mem _ hy))
    by_cases c : q x = true
    · rw [if_pos c, nI_1, ih, List.countP_cons_of_pos c, show a + 1 + l.countP q = a + (l.countP q + 1) by omega]
    · rw [if_neg c, ih, List.countP_cons_of_neg c]
def pp_xS (c : Nat) (z : Int32) (p : List Nat) : Int32 := if nI c ≤ nI (pp_code p) then z else z + 1
theorem pq_less {f s : Nat → Int32} (hw : pp_wf (pp_ti f) (pp_ti s)) {c : Nat} (hc : c < 2 ^ 31) : (List.range' 1 511).foldl (pp_yS (pp_ti f) (pp_ti s) c) 0 = nI (((pp_PL (pp_ti f) (pp_ti s)).map pp_code).countP (fun y => decide (y < c))) := by
  have e := pp_fold hw (pp_xS c) (fun p _ q _ z => pp_cadd (fun p => if nI c ≤ nI (pp_code p) then 0 else 1) (fun z p => by
    unfold pp_xS
    by_cases c0 : nI c ≤ nI (pp_code p)
    · rw [if_pos c0, if_pos c0, Int32.add_zero]
    · rw [if_neg c0, if_neg c0]) z p q) 0
  have e2 := pp_cntI (fun p => decide (pp_code p < c)) (g := pp_xS c) (pp_PL (pp_ti f) (pp_ti s)) (fun z p hp => by
    unfold pp_xS
    have l := pp_code_31 (pp_PL_srt hw hp)
    by_cases c0 : pp_code p < c
    · rw [if_neg (nI_ge c0 hc), if_pos (decide_eq_true c0)]
    · rw [if_pos (nI_le (by omega) l), if_neg (by rw [decide_eq_true_eq]; exact c0)]) 0
  rw [Nat.zero_add] at e2
  rw [List.countP_map]
  refine Eq.trans ?_ e2
  refine Eq.trans ?_ e.symm
  refine pp_fc _ _ (fun z n hn => ?_)
  unfold pp_yS pp_xS
  by_cases y : pp_Y (pp_ti f) (pp_ti s) n = true
  · rw [if_pos y, if_pos y]
  · rw [if_neg y, if_neg y, ite_self]
end
section
/-! consecutive blocks against masks -/
theorem pp_adj_iff {b c : Nat} (hbc : b < c) (hc : c < 9) : ∀ (p : List Nat), pp_srt p → (pp_adj (nI b) (nI c) p = true ↔ b ∈ p ∧ c ∈ p ∧ ∀ x, x ∈ p → ¬ (b < x ∧ x < c)) := by
  intro p
  induction p with
  | nil =>
    intro _
    exact ⟨fun h => (by cases h), fun h => (by cases h.1)⟩
  | cons x t ih =>
    intro hs
    obtain ⟨h1, h2⟩ := hs
    obtain ⟨h3, h4⟩ := List.pairwise_cons.mp h1
    have hx := h2 x List.mem_cons_self
    have ih := ih ⟨h4, fun y hy => h2 y (List.mem_cons_of_mem _ hy)⟩
    cases t with
    | nil =>
      rw [pp_adj1]
      constructor
      · intro h; cases h
      · rintro ⟨g1, g2, _⟩
        rw [List.mem_singleton] at g1 g2
        omega
    | cons y t =>
      have hy := h2 y (List.mem_cons_of_mem _ List.mem_cons_self)
      have hxy := h3 y List.mem_cons_self
      rw [pp_adj2, Bool.or_eq_true, decide_eq_true_eq, nI_eq (by omega) (by omega), nI_eq (by omega) (by omega), ih]
      constructor
      · rintro (⟨rfl, rfl⟩ | ⟨g1, g2, g3⟩)
        · refine ⟨List.mem_cons_self, List.mem_cons_of_mem _ List.mem_cons_self, ?_⟩
          intro z hz
          rcases List.mem_cons.mp hz with e | e
          · omega
          · rcases List.mem_cons.mp e with e | e
            · omega
            · have := (List.pairwise_cons.mp h4).1 z e
              omega
        · refine ⟨List.mem_cons_of_mem _ g1, List.mem_cons_of_mem _ g2, ?_⟩
          intro z hz
          rcases List.mem_cons.mp hz with e | e
          · have := h3 b g1
            omega
          · exact g3 z e
      · rintro ⟨g1, g2, g3⟩
        have cne : c ∈ y :: t := by
          rcases List.mem_cons.mp g2 with e | e
          · rcases List.mem_cons.mp g1 with e' | e'
            · omega
            · have := h3 b e'
              omega
          · exact e
        rcases List.mem_cons.mp g1 with e | e
        · left
          refine ⟨e.symm, ?_⟩
          have n := g3 y (List.mem_cons_of_mem _ List.mem_cons_self)
          rcases List.mem_cons.mp cne with e2 | e2
          · exact e2.symm
          · have := (List.pairwise_cons.mp h4).1 c e2
            omega
        · right
          exact ⟨e, cne, fun z hz => g3 z (List.mem_cons_of_mem _ hz)⟩
theorem pp_tb_ext {m n : Nat} (hm : m < 512) (hn : n < 512) (h : ∀ j, j < 9 → m.testBit j = n.testBit j) : m = n := by
  rw [← pp_so_bits m hm, ← pp_so_bits n hn]
  have e : pp_bits m = pp_bits n := by
    unfold pp_bits
    refine List.filter_congr ?_
    intro x hx
    exact h x (List.mem_range.mp hx)
  rw [e]
def pp_mk (b c : Nat) : Nat := 2 ^ (c + 1) - 2 ^ b
theorem pp_mk_t : ((List.range 9).all fun b => (List.range 9).all fun c => (List.range 9).all fun j => decide (b < c → (pp_mk b c).testBit j = decide (b ≤ j ∧ j ≤ c) ∧ (2 ^ b + 2 ^ c).testBit j = decide (j = b ∨ j = c))) = true := by decide +kernel
theorem pp_mk_e {b c j : Nat} (hb : b < c) (hc : c < 9) (hj : j < 9) : (pp_mk b c).testBit j = decide (b ≤ j ∧ j ≤ c) ∧ (2 ^ b + 2 ^ c).testBit j = decide (j = b ∨ j = c) := by
  have h := List.all_eq_true.mp (List.all_eq_true.mp (List.all_eq_true.mp pp_mk_t b (List.mem_range.mpr (by omega))) c (List.mem_range.mpr hc)) j (List.mem_range.mpr hj)
  exact of_decide_eq_true h hb
theorem pp_mk_lt {b c : Nat} (hb : b < c) (hc : c < 9) : 2 ^ b + 2 ^ c < 512 ∧ 2 ^ b < 2 ^ c ∧ 2 ^ b ≤ 2 ^ (c + 1) := by
  have h1 : 2 ^ b < 2 ^ c := Nat.pow_lt_pow_right (by decide) hb
  have h2 : 2 ^ c ≤ 2 ^ 8 := Nat.pow_le_pow_right (by decide) (by omega)
  have h3 : 2 ^ b ≤ 2 ^ (c + 1) := Nat.pow_le_pow_right (by decide) (by omega)
  have e : (2 : Nat) ^ 8 = 256 := by decide
  refine ⟨by omega, h1, h3⟩
theorem pp_mask {b c n : Nat} (hb : b < c) (hc : c < 9) (hn : n < 512) : n &&& pp_mk b c = 2 ^ b + 2 ^ c ↔ pp_adj (nI b) (nI c) (pp_bits n) = true := by
  have l := pp_mk_lt hb hc
  have ln : n &&& pp_mk b c < 512 := Nat.lt_of_le_of_lt Nat.and_le_left hn
  rw [pp_adj_iff hb hc _ (pp_bits_srt n)]
  constructor
  · intro h
    have t : ∀ j, j < 9 → (n.testBit j && decide (b ≤ j ∧ j ≤ c)) = decide (j = b ∨ j = c) := by
      intro j hj
      obtain ⟨e1, e2⟩ := pp_mk_e hb hc hj
      rw [← e1, ← e2, ← Nat.testBit_and, h]
    refine ⟨pp_bits_in.mpr ⟨by omega, ?_⟩, pp_bits_in.mpr ⟨hc, ?_⟩, ?_⟩
    · have := t b (by omega)
      rw [decide_eq_true (show b = b ∨ b = c from Or.inl rfl), Bool.and_eq_true] at this
      exact this.1
    · have := t c hc
      rw [decide_eq_true (show c = b ∨ c = c from Or.inr rfl), Bool.and_eq_true] at this
      exact this.1
    · intro x hx z
      obtain ⟨x9, xb⟩ := pp_bits_in.mp hx
      have := t x x9
      rw [xb, decide_eq_true (show b ≤ x ∧ x ≤ c by omega), decide_eq_false (show ¬ (x = b ∨ x = c) by omega)] at this
      cases this
  · rintro ⟨g1, g2, g3⟩
    refine pp_tb_ext ln l.1 ?_
    intro j hj
    obtain ⟨e1, e2⟩ := pp_mk_e hb hc hj
    rw [Nat.testBit_and, e1, e2]
    by_cases c1 : j = b ∨ j = c
    · rw [decide_eq_true c1, decide_eq_true (show b ≤ j ∧ j ≤ c by omega), Bool.and_true]
      rcases c1 with c1 | c1
      · rw [c1]; exact (pp_bits_in.mp g1).2
      · rw [c1]; exact (pp_bits_in.mp g2).2
    · rw [decide_eq_false c1]
      by_cases c2 : b ≤ j ∧ j ≤ c
      · rw [decide_eq_true c2, Bool.and_true]
        cases e : n.testBit j with
        | false => rfl
        | true => exact absurd (show b < j ∧ j < c by omega) (g3 j (pp_bits_in.mpr ⟨hj, e⟩))
      · rw [decide_eq_false c2, Bool.and_false]
theorem yw_shl10 : ∀ c, c < 10 → ((1 : Int32) <<< (nI c &&& 31)) = nI (2 ^ c) := by decide +kernel
theorem yw_mask {b c n : Nat} (hb : b < c) (hc : c < 9) (hn : n < 512) : (nI n &&& (((1 : Int32) <<< ((nI c + 1) &&& 31)) - ((1 : Int32) <<< (nI b &&& 31))) = ((1 : Int32) <<< (nI b &&& 31)) ||| ((1 : Int32) <<< (nI c &&& 31))) ↔ pp_adj (nI b) (nI c) (pp_bits n) = true := by
  have l := pp_mk_lt hb hc
  have ln : n &&& pp_mk b c < 512 := Nat.lt_of_le_of_lt Nat.and_le_left hn
  rw [nI_1, yw_shl10 (c + 1) (by omega), yw_shl b (by omega), yw_or c hc _ l.2.1, pk_sub l.2.2, nx_and]
  have e : n &&& (2 ^ (c + 1) - 2 ^ b) = n &&& pp_mk b c := rfl
  rw [e, nI_eq (by omega) (by omega)]
  exact pp_mask hb hc hn
/-- consecutive blocks of a path are joined by an arc -/
theorem pp_adj_ok {F S : Nat → Int} (hw : pp_wf F S) {v w : Int32} : ∀ (t : List Nat) (b : Nat), b < 9 → pp_ok F S b t = true → pp_adj v w (b :: t) = true → ∃ x y : Nat, v = nI x ∧ w = nI y ∧ x < y ∧ y < 9 ∧ (F x = (y : Int) ∨ S x = (y : Int)) := by
  intro t
  induction t with
  | nil => intro b _ _ h; cases h
  | cons c t ih =>
    intro b hb hk h
    obtain ⟨w1, w2, w3, w4, _⟩ := hw b hb
    rw [pp_ok, Bool.and_eq_true, decide_eq_true_eq] at hk
    obtain ⟨⟨k1, k2⟩, k3⟩ := hk
    have hc : c < 9 := by omega
    rw [pp_adj2, Bool.or_eq_true, decide_eq_true_eq] at h
    rcases h with ⟨e1, e2⟩ | h
    · exact ⟨b, c, e1.symm, e2.symm, k1, hc, k2⟩
    · exact ih c hc k3 h
def pp_isArc (f s : Nat → Int32) (v w : Int32) : Prop := ∃ x y : Nat, v = nI x ∧ w = nI y ∧ x < y ∧ y < 9 ∧ ((f x).toInt = (y : Int) ∨ (s x).toInt = (y : Int))
theorem pp_adj_PL {f s : Nat → Int32} (hw : pp_wf (pp_ti f) (pp_ti s)) {v w : Int32} {p : List Nat} (hp : p ∈ pp_PL (pp_ti f) (pp_ti s)) (h : pp_adj v w p = true) : pp_isArc f s v w := by
  obtain ⟨b, t, rfl, hb, _, hk⟩ := (pp_PL_in hw).mp hp
  exact pp_adj_ok hw t b hb hk h
theorem yw_arcT {post : Int32 → Prop} {un : Int32} {f s cs : Nat → Int32} {v w : Int32} (h0 : ¬ pp_isArc f s v w → post 0) (h1 : ∀ b c, v = nI b → w = nI c → b < c → c < 9 → wY_arc_43 post v w un f s cs) : wpY_arc post (un, f, s, cs) v w := by
  unfold wpY_arc
  have inj : ∀ (x : Int32) (y : Nat), y < 9 → x = nI y → x.toInt = (y : Int) := fun x y hy e => by rw [e, xw_nIt hy]
  refine yw_isBlock (fun a1 a2 => br_f xw_1 (yw_isBlock (fun b1 b2 => br_f xw_1 (br_c (fun c => h0 ?_) (fun c => ?_))) (fun b => br_t rfl (h0 ?_)))) (fun a => br_t rfl (h0 ?_))
  · rintro ⟨x, y, e1, e2, l1, l2, _⟩
    rw [Int32.le_iff_toInt_le, inj v x (by omega) e1, inj w y l2 e2] at c
    omega
  · rw [Int32.le_iff_toInt_le] at c
    have ev := xw_of a1
    have ew := xw_of b1
    have g := h1 _ _ ev ew (by omega) (by omega)
    have e : v.toNatClampNeg = v.toInt.toNat := rfl
    have hv : vp_in v 9 := vp_in_iff.mpr ⟨a1, a2⟩
    refine ⟨hv, br_c (fun _ => g) (fun n1 => ⟨hv, br_c (fun _ => g) (fun n2 => h0 ?_)⟩)⟩
    rintro ⟨x, y, e1, e2, l1, l2, z⟩
    have ex := inj v x (by omega) e1
    have ey := inj w y l2 e2
    rw [e, show v.toInt.toNat = x by omega] at n1 n2
    rcases z with z | z
    · exact n1 (Int32.toInt_inj.mp (z.trans ey.symm))
    · exact n2 (Int32.toInt_inj.mp (z.trans ey.symm))
  · rintro ⟨x, y, e1, e2, l1, l2, _⟩
    rw [inj w y l2 e2] at b
    omega
  · rintro ⟨x, y, e1, e2, l1, l2, _⟩
    rw [inj v x (by omega) e1] at a
    omega
/-! lead -/
def pp_sc (f s : Nat → Int32) (b : Nat) : Int32 := if (f b).toInt < 0 then 0 else if (s b).toInt < 0 then 1 else 2
theorem yw_sc {post : Int32 → Prop} {un : Int32} {f s cs : Nat → Int32} {b : Nat} (hb : b < 9) (h : post (pp_sc f s b)) : wpY_successorsOf post (un, f, s, cs) (nI b) := by
  unfold pp_sc at h
  refine yw_succ hb (fun c => ?_) (fun c d => ?_) (fun c d => ?_)
  · rw [if_pos c] at h; exact h
  · rw [if_neg (by omega), if_pos d] at h; exact h
  · rw [if_neg (by omega), if_neg (by omega)] at h; exact h
theorem xw_sc {post : Int32 → Prop} {num pa op sz : Int32} {f s wo ba cnt li co : Nat → Int32} {b : Nat} (hb : b < 9) (h : post (pp_sc f s b)) : wpX_successors post (num, pa, op, sz, f, s, wo, ba, cnt, li, co) (nI b) := by
  unfold wpX_successors
  unfold pp_sc at h
  have hv := xw_in hb
  refine xw_bad (fun _ _ => br_t rfl ?_) (fun g => absurd ⟨?_, ?_⟩ g)
  · rw [xw_cl hb]
    refine ⟨hv, br_c (fun c => ⟨hv, br_c (fun d => ?_) (fun d => ?_)⟩) (fun c => ?_)⟩
    · rw [xw_0le] at c d
      rw [if_neg (by omega), if_neg (by omega)] at h; exact h
    · rw [xw_0le] at c d
      rw [if_neg (by omega), if_pos (by omega)] at h; exact h
    · rw [xw_0le] at c
      rw [if_pos (by omega)] at h; exact h
  · rw [xw_nIt hb]; omega
  · rw [xw_nIt hb]; omega
def pp_ok3 (v1 v2 v3 : Int32) : Prop := 0 ≤ v1.toInt ∧ v1.toInt < 9 ∧ -1 ≤ v2.toInt ∧ v2.toInt ≤ 8 ∧ -1 ≤ v3.toInt ∧ v3.toInt ≤ 8 ∧ (v2.toInt = -1 → v3.toInt = -1) ∧ (v2.toInt = v3.toInt → v2.toInt = -1)
theorem xw_lead {post : Int32 → SX → Prop} {num pa op sz : Int32} {f s wo ba cnt li co : Nat → Int32} {v1 v2 v3 : Int32} (h0 : ¬ pp_ok3 v1 v2 v3 → post (-1) (num, pa, op, sz, f, s, wo, ba, cnt, li, co)) (h1 : pp_ok3 v1 v2 v3 → wX_lead_51 post v1 v2 v3 num pa op sz f s wo ba cnt li co) : wpX_lead post (num, pa, op, sz, f, s, wo, ba, cnt, li, co) v1 v2 v3 := by
  unfold wpX_lead
  unfold pp_ok3 at h0 h1
  have k41 : (0 ≤ v1.toInt ∧ v1.toInt < 9) → ¬ v2.toInt < -1 → ¬ 9 ≤ v2.toInt → ¬ v3.toInt < -1 → v3.toInt < 9 → ¬ (v2.toInt = v3.toInt ∧ 0 ≤ v2.toInt) → wX_lead_41 post v1 v2 v3 num pa op sz f s wo ba cnt li co := by
    intro a b c d e g
    unfold wX_lead_41
    refine br_c (fun z => h1 ?_) (fun z => br_c (fun z2 => h1 ?_) (fun z2 => h0 ?_))
    · rw [xw_0le] at z; omega
    · rw [xw_0le] at z
      rw [xw_lt0] at z2
      omega
    · rw [xw_0le] at z
      rw [xw_lt0] at z2
      omega
  refine xw_bad (fun a1 a2 => br_t rfl (br_c (fun b => h0 ?_) (fun b => br_c (fun c => h0 ?_) (fun c => br_c (fun d => h0 ?_) (fun d => br_c (fun e => br_c (fun g => br_c (fun k => h0 ?_) (fun k => k41 ⟨a1, a2⟩ ?_ ?_ ?_ ?_ ?_)) (fun g => k41 ⟨a1, a2⟩ ?_ ?_ ?_ ?_ ?_)) (fun e => h0 ?_)))))) (fun a => br_f xw_1 (h0 (by omega)))
  all_goals first
    | rw [Int32.lt_iff_toInt_lt, xw_m1] at b
    | skip
  all_goals first
    | rw [xw_9le] at c
    | skip
  all_goals first
    | rw [Int32.lt_iff_toInt_lt, xw_m1] at d
    | skip
  all_goals first
    | rw [xw_lt9] at e
    | skip
  all_goals first
    | rw [← Int32.toInt_inj] at g
    | skip
  all_goals first
    | rw [xw_0le] at k
    | skip
  all_goals omega
theorem yw_lead {post : Int32 → SY → Prop} {un : Int32} {f s cs : Nat → Int32} {v1 v2 v3 : Int32} (h0 : ¬ pp_ok3 v1 v2 v3 → post (-1) (un, f, s, cs)) (h1 : pp_ok3 v1 v2 v3 → wY_lead_52 post v1 v2 v3 un f s cs) : wpY_lead post (un, f, s, cs) v1 v2 v3 := by
  unfold wpY_lead
  unfold pp_ok3 at h0 h1
  have k40 : (0 ≤ v1.toInt ∧ v1.toInt < 9) → ¬ v2.toInt < -1 → ¬ 8 < v2.toInt → ¬ v3.toInt < -1 → ¬ 8 < v3.toInt → (v2.toInt = -1 → v3.toInt = -1) → wY_lead_40 post v1 v2 v3 un f s cs := by
    intro a b c d e g
    unfold wY_lead_40
    refine br_c (fun z => br_c (fun z2 => h1 ?_) (fun z2 => h0 ?_)) (fun z => h1 ?_)
    all_goals rw [← Int32.toInt_inj] at z
    all_goals first
      | rw [← Int32.toInt_inj, xw_m1] at z2
      | skip
    all_goals omega
  refine yw_isBlock (fun a1 a2 => br_f xw_1 (br_c (fun b => h0 ?_) (fun b => br_c (fun c => h0 ?_) (fun c => br_c (fun d => h0 ?_) (fun d => br_c (fun e => h0 ?_) (fun e => br_c (fun g => br_c (fun k => k40 ⟨a1, a2⟩ ?_ ?_ ?_ ?_ ?_) (fun k => h0 ?_)) (fun g => k40 ⟨a1, a2⟩ ?_ ?_ ?_ ?_ ?_))))))) (fun a => br_t rfl (h0 (by omega)))
  all_goals first
    | rw [Int32.lt_iff_toInt_lt, xw_m1] at b
    | skip
  all_goals first
    | rw [yw_lt8] at c
    | skip
  all_goals first
    | rw [Int32.lt_iff_toInt_lt, xw_m1] at d
    | skip
  all_goals first
    | rw [yw_lt8] at e
    | skip
  all_goals first
    | rw [← Int32.toInt_inj, xw_m1] at g
    | skip
  all_goals first
    | rw [← Int32.toInt_inj, xw_m1] at k
    | skip
  all_goals omega
theorem xw_105 {post : Int32 → SX → Prop} {num pa op sz : Int32} {f s wo ba li co : Nat → Int32} {x4 : Int32} (K : ∀ cnt : Nat → Int32, (∀ j, j < 160 → cnt j = 0) → post x4 (num, pa, op, sz, f, s, wo, ba, cnt, li, co)) : ∀ (d i : Nat) (cnt : Nat → Int32), i + d = 160 → (∀ j, j < i → cnt j = 0) → wX_lead_105 post x4 num pa op sz (d + 1) (nI i) f s wo ba cnt li co := by
  intro d
  induction d with
  | zero =>
    intro i cnt hi h
    rw [wX_lead_105]
    exact br_t (nI_le (a := 160) (by omega) (by omega)) (K cnt (fun j hj => h j (by omega)))
  | succ d ih =>
    intro i cnt hi h
    rw [wX_lead_105]
    have h6 : i < 160 := by omega
    simp only [xw_cl6 h6]
    refine br_f (nI_ge (b := 160) h6 (by decide)) ⟨xw_in6 h6, nm_e (nm_r (nI_1 i) (ih (i + 1) _ (by omega) ?_))⟩
    intro j hj
    by_cases e : j = i
    · rw [e, pk_us]
    · rw [pk_un e]; exact h j (by omega)
theorem yw_82 {post : Int32 → SY → Prop} {un : Int32} {f s : Nat → Int32} {x1 x2 x3 x4 : Int32} (K : ∀ cs : Nat → Int32, (∀ j, j < 512 → cs j = 0) → wY_lead_109 post x1 x2 x3 x4 0 f s cs) : ∀ (d i : Nat) (cs : Nat → Int32), i + d = 512 → (∀ j, j < i → cs j = 0) → wY_lead_82 post x1 x2 x3 x4 un (d + 1) (nI i) f s cs := by
  intro d
  induction d with
  | zero =>
    intro i cs hi h
    rw [wY_lead_82]
    exact br_t (yw_end hi) (K cs (fun j hj => h j (by omega)))
  | succ d ih =>
    intro i cs hi h
    rw [wY_lead_82]
    have h5 : i < 512 := by omega
    simp only [yw_cl h5]
    refine br_f (yw_ge h5) ⟨yw_in h5, nm_e (nm_r (nI_1 i) (ih (i + 1) _ (by omega) ?_))⟩
    intro j hj
    by_cases e : j = i
    · rw [e, pk_us]
    · rw [pk_un e]; exact h j (by omega)
/-! the constructors -/
def pp_ini (i : Nat) : Nat → Int32 := fun j => if j < i then -1 else 0
theorem pp_ini_0 : pp_ini 0 = fun _ => 0 := by
  funext j
  exact if_neg (Nat.not_lt_zero j)
theorem pp_ini_s (i : Nat) : upd (pp_ini i) i (-1) = pp_ini (i + 1) := by
  funext j
  unfold upd pp_ini
  by_cases e : j = i
  · rw [if_pos e, if_pos (by omega)]
  · rw [if_neg e]
    by_cases l : j < i
    · rw [if_pos l, if_pos (by omega)]
    · rw [if_neg l, if_neg (by omega)]
theorem xw_init {post : SX → Prop} {num pa op sz : Int32} {wo ba cnt li co : Nat → Int32} (h : post (num, pa, op, sz, pp_ini 9, pp_ini 9, wo, ba, cnt, li, co)) : ∀ (d i : Nat), i + d = 9 → wX_init_64 post num pa op sz (d + 1) (nI i) (pp_ini i) (pp_ini i) wo ba cnt li co := by
  intro d
  induction d with
  | zero =>
    intro i hi
    have e : i = 9 := by omega
    subst e
    rw [wX_init_64]
    exact br_t (nI_le (a := 9) (by omega) (by omega)) h
  | succ d ih =>
    intro i hi
    rw [wX_init_64]
    have hb : i < 9 := by omega
    dsimp only
    rw [xw_cl hb, pp_ini_s]
    exact br_f (nI_ge (b := 9) hb (by decide)) ⟨xw_in hb, nm_e ⟨xw_in hb, nm_e (nm_r (nI_1 i) (ih (i + 1) (by omega)))⟩⟩
theorem yw_init {post : SY → Prop} {un : Int32} {cs : Nat → Int32} (h : post (un, pp_ini 9, pp_ini 9, cs)) : ∀ (d i : Nat), i + d = 9 → wY_init_31 post un (d + 1) (nI i) (pp_ini i) (pp_ini i) cs := by
  intro d
  induction d with
  | zero =>
    intro i hi
    have e : i = 9 := by omega
    subst e
    rw [wY_init_31]
    exact br_t (nI_le (a := 9) (by omega) (by omega)) h
  | succ d ih =>
    intro i hi
    rw [wY_init_31]
    have hb : i < 9 := by omega
    dsimp only
    rw [xw_cl hb, pp_ini_s]
    exact br_f (nI_ge (b := 9) hb (by decide)) ⟨xw_in hb, nm_e ⟨xw_in hb, nm_e (nm_r (nI_1 i) (ih (i + 1) (by omega)))⟩⟩
end
section
/-- the relation: the same blocks; the numbering, once it is made, is the pure one; X's count of a path's number is Y's count of its set -/
def i_Rel (k : Nat) (u : SX) (v : SY) : Prop :=
  ∃ (num pa op sz : Int32) (f s wo ba cnt li co cs : Nat → Int32), u = (num, pa, op, sz, f, s, wo, ba, cnt, li, co) ∧ v = (op, f, s, cs) ∧ pp_wf (pp_ti f) (pp_ti s) ∧ (¬ num = 0 → pp_Nb f s pa wo ba) ∧ pp_CR f s cnt cs (11 * k)
theorem i_up {k : Nat} {u : SX} {v : SY} (h : i_Rel k u v) : i_Rel (k + 4) u v := by
  obtain ⟨num, pa, op, sz, f, s, wo, ba, cnt, li, co, cs, h1, h2, h3, h4, h5⟩ := h
  exact ⟨num, pa, op, sz, f, s, wo, ba, cnt, li, co, cs, h1, h2, h3, h4, pp_CR_up (by omega) h5⟩
theorem ow_mk {k : Nat} {num pa op sz : Int32} {f s wo ba cnt li co : Nat → Int32} {cs : Nat → Int32} (h3 : pp_wf (pp_ti f) (pp_ti s)) (h4 : ¬ num = 0 → pp_Nb f s pa wo ba) (h5 : pp_CR f s cnt cs (11 * k)) : i_Rel (k + 4) (num, pa, op, sz, f, s, wo, ba, cnt, li, co) (op, f, s, cs) :=
  ⟨num, pa, op, sz, f, s, wo, ba, cnt, li, co, cs, rfl, rfl, h3, h4, pp_CR_up (by omega) h5⟩
theorem i_vc0 : wpX_init (fun u => wpY_init (fun v => i_Rel 0 u v)) := by
  unfold wpX_init
  refine ⟨10, ?_⟩
  rw [← pp_ini_0]
  refine xw_init ?_ 9 0 rfl
  unfold wpY_init
  refine ⟨10, ?_⟩
  rw [← pp_ini_0]
  refine yw_init ?_ 9 0 rfl
  refine ⟨0, 0, 0, 0, pp_ini 9, pp_ini 9, pp_ini 0, pp_ini 0, pp_ini 0, pp_ini 0, pp_ini 0, pp_ini 0, rfl, rfl, ?_, fun z => absurd rfl z, ?_⟩
  · intro b hb
    have e : pp_ti (pp_ini 9) b = -1 := by
      unfold pp_ti pp_ini
      rw [if_pos hb]
      decide
    rw [e]
    omega
  · rw [pp_ini_0]
    exact ⟨fun _ _ _ => rfl, fun _ _ _ => rfl, fun _ _ => ⟨0, Nat.zero_le _, rfl⟩⟩
theorem i_vc_lead {k : Nat} {u : SX} {v : SY} (I : i_Rel k u v) (hk : k + 4 ≤ 2048) (v1 : Int32) (v2 : Int32) (v3 : Int32) : wpX_lead (fun r u' => wpY_lead (fun r' v' => r' = r ∧ i_Rel (k + 4) u' v') v v1 v2 v3) u v1 v2 v3 := by
  obtain ⟨num, pa, op, sz, f, s, wo, ba, cnt, li, co, cs, rfl, rfl, h3, h4, h5⟩ := I
  refine xw_lead (fun n => yw_lead (fun _ => ⟨rfl, ow_mk h3 h4 h5⟩) (fun y => absurd y n)) (fun y => ?_)
  have e := xw_of y.1
  have hb : v1.toInt.toNat < 9 := by
    have := y.2.1
    omega
  generalize v1.toInt.toNat = b at e hb
  subst e
  have hv := xw_in hb
  have ch : ¬ (f b = v2 ∧ s b = v3) → wX_lead_78 (fun r u' => wpY_lead (fun r' v' => r' = r ∧ i_Rel (k + 4) u' v') (op, f, s, cs) (nI b) v2 v3) (nI b) v2 v3 (pp_sc f s b) num pa op sz f s wo ba cnt li co := by
    intro hne
    unfold wX_lead_78
    rw [xw_cl hb]
    refine ⟨hv, nm_e ⟨hv, nm_e ⟨161, xw_105 (fun cnt2 hcnt => ?_) 160 0 cnt rfl (fun j hj => absurd hj (Nat.not_lt_zero j))⟩⟩⟩
    refine yw_lead (fun n => absurd y n) (fun _ => ?_)
    have k82 : ∃ n82 : Nat, wY_lead_82 (fun r' v' => r' = pp_sc f s b ∧ i_Rel (k + 4) (0, pa, 0, sz, upd f b v2, upd s b v3, wo, ba, cnt2, li, co) v') (nI b) v2 v3 (pp_sc f s b) op n82 0 f s cs := by
      refine ⟨513, yw_82 (fun cs2 hcs => ?_) 512 0 cs rfl (fun j hj => absurd hj (Nat.not_lt_zero j))⟩
      unfold wY_lead_109
      rw [xw_cl hb]
      refine ⟨hv, nm_e ⟨hv, nm_e ⟨rfl, ?_⟩⟩⟩
      have wf' : pp_wf (pp_ti (upd f b v2)) (pp_ti (upd s b v3)) := by
        intro a ha
        by_cases z : a = b
        · subst z
          have e1 : pp_ti (upd f a v2) a = v2.toInt := congrArg Int32.toInt pk_us
          have e2 : pp_ti (upd s a v3) a = v3.toInt := congrArg Int32.toInt pk_us
          rw [e1, e2]
          exact y.2.2
        · have e1 : pp_ti (upd f b v2) a = pp_ti f a := congrArg Int32.toInt (pk_un z)
          have e2 : pp_ti (upd s b v3) a = pp_ti s a := congrArg Int32.toInt (pk_un z)
          rw [e1, e2]
          exact h3 a ha
      refine ow_mk wf' (fun z => absurd rfl z) ⟨fun j p hp => ?_, fun n hn _ => hcs n hn, fun n hn => ⟨0, Nat.zero_le _, hcs n hn⟩⟩
      have l1 := pp_some_lt hp
      have l2 := pp_PL_len wf'
      rw [hcnt j (by omega), hcs _ (pp_so_lt (pp_PL_srt wf' (List.mem_of_getElem? hp)))]
    unfold wY_lead_52
    refine yw_sc hb ?_
    rw [xw_cl hb]
    exact ⟨hv, br_c (fun c => ⟨hv, br_c (fun c2 => absurd ⟨c, c2⟩ hne) (fun _ => k82)⟩) (fun _ => k82)⟩
  unfold wX_lead_51
  refine xw_sc hb ?_
  rw [xw_cl hb]
  refine ⟨hv, br_c (fun c => ⟨hv, br_c (fun c2 => ?_) (fun c2 => ch (fun z => c2 z.2))⟩) (fun c => ch (fun z => c z.1))⟩
  refine yw_lead (fun n => absurd y n) (fun _ => ?_)
  unfold wY_lead_52
  refine yw_sc hb ?_
  rw [xw_cl hb]
  refine ⟨hv, br_t c ⟨hv, br_t c2 ?_⟩⟩
  unfold wY_lead_109
  rw [xw_cl hb]
  have e1 : upd f b v2 = f := by
    funext j
    by_cases z : j = b
    · rw [z, pk_us, c]
    · rw [pk_un z]
  have e2 : upd s b v3 = s := by
    funext j
    by_cases z : j = b
    · rw [z, pk_us, c2]
    · rw [pk_un z]
  exact ⟨hv, nm_r e1 ⟨hv, nm_r e2 ⟨rfl, ow_mk h3 h4 h5⟩⟩⟩
theorem i_vc_successors {k : Nat} {u : SX} {v : SY} (I : i_Rel k u v) (hk : k + 4 ≤ 2048) (v1 : Int32) : wpX_successors (fun r => wpY_successors (fun r' => r' = r ∧ i_Rel (k + 4) u v) v v1) u v1 := by
  have I' := i_up I
  obtain ⟨num, pa, op, sz, f, s, wo, ba, cnt, li, co, cs, rfl, rfl, h3, h4, h5⟩ := I
  by_cases a : 0 ≤ v1.toInt ∧ v1.toInt < 9
  · have e := xw_of a.1
    have hb : v1.toInt.toNat < 9 := by omega
    generalize v1.toInt.toNat = b at e hb
    subst e
    refine xw_sc hb ?_
    unfold wpY_successors
    exact yw_isBlock (fun _ _ => br_f xw_1 (yw_sc hb ⟨rfl, I'⟩)) (fun z => absurd a z)
  · unfold wpX_successors
    refine xw_bad (fun z1 z2 => absurd ⟨z1, z2⟩ a) (fun _ => br_f xw_1 ?_)
    unfold wpY_successors
    exact yw_isBlock (fun z1 z2 => absurd ⟨z1, z2⟩ a) (fun _ => br_t rfl ⟨rfl, I'⟩)
theorem i_vc_run {k : Nat} {u : SX} {v : SY} (I : i_Rel k u v) (hk : k + 4 ≤ 2048) (v1 : Int32) (v2 : Int32) : wpX_run (fun r u' => wpY_run (fun r' v' => r' = r ∧ i_Rel (k + 4) u' v') v v1 v2) u v1 v2 := by
  obtain ⟨num, pa, op, sz, f, s, wo, ba, cnt, li, co, cs, rfl, rfl, h3, h4, h5⟩ := I
  have h31 : 11 * k + 41 < 2 ^ 31 := by omega
  unfold wpX_run
  refine br_c (fun c => ?_) (fun c => br_c (fun c2 => ?_) (fun c2 => ?_))
  · unfold wpY_run
    exact br_t c ⟨rfl, ow_mk h3 h4 h5⟩
  · obtain ⟨many, hm, rfl⟩ := nI_of2 (M := 24) (n := 24) (by decide) c c2
    refine xw_number h3 h4 (fun num pa wo ba hn hN => ?_)
    obtain ⟨hpa, hwo, hba⟩ := hN
    have b0 : ba 0 = nI (pp_base (pp_ti f) (pp_ti s) 0) := by
      rw [hba 0 (by omega), if_pos (pp_hd_0 _ _)]
    obtain ⟨r, op', cnt', cs', q1, q2, q3⟩ := rw_lock (num := num) (pa := pa) (op := op) (sz := sz) (li := li) (co := co) (ch := v1) h3 hwo hba hm 40 0 0 (pp_base (pp_ti f) (pp_ti s) 0) 0 (11 * k) [] cnt cs (by omega) (by omega) (pp_pos_b (by omega) (pp_hd_0 _ _)) ⟨List.pairwise_singleton _ _, fun x hx => by rw [List.nil_append, List.mem_singleton] at hx; omega⟩ (Nat.zero_le _) h5
    rw [rw_sh0] at q2
    have fin : wpY_run (fun r' v' => r' = r ∧ i_Rel (k + 4) (num, pa, op', sz, f, s, wo, ba, cnt', li, co) v') (op, f, s, cs) v1 (nI many) := by
      unfold wpY_run
      have q3 := q3 (fun r' v' => r' = r ∧ i_Rel (k + 4) (num, pa, op', sz, f, s, wo, ba, cnt', li, co) v') ⟨rfl, num, pa, op', sz, f, s, wo, ba, cnt', li, co, cs', rfl, rfl, h3, fun _ => ⟨hpa, hwo, hba⟩, pp_CR_up (by omega) q1⟩
      refine br_f c (br_t c2 (yw_succ (b := 0) (by omega) (fun z => br_t (by decide) ⟨41, ?_⟩) (fun z _ => br_f (by decide) ⟨41, ?_⟩) (fun z _ => br_f (by decide) ⟨41, ?_⟩)))
      · rw [pp_b0 (by rw [decide_eq_true_eq]; omega)] at q3
        exact q3
      · rw [pp_b1 (decide_eq_true ⟨by omega, z⟩)] at q3
        exact q3
      · rw [pp_b1 (decide_eq_true ⟨by omega, z⟩)] at q3
        exact q3
    have q2 := q2 (fun r u' => wpY_run (fun r' v' => r' = r ∧ i_Rel (k + 4) u' v') (op, f, s, cs) v1 (nI many)) fin
    refine nm_r b0 (br_c (fun z => ⟨41, ?_⟩) (fun z => ⟨41, ?_⟩))
    · rw [xw_lt0] at z
      rw [pp_b0 (by rw [decide_eq_true_eq]; omega)] at q2
      exact q2
    · rw [xw_lt0] at z
      rw [pp_b1 (decide_eq_true (by omega))] at q2
      exact q2
  · unfold wpY_run
    exact br_f c (br_f c2 ⟨rfl, ow_mk h3 h4 h5⟩)
theorem i_vc_possible {k : Nat} {u : SX} {v : SY} (I : i_Rel k u v) (hk : k + 4 ≤ 2048) : wpX_possible (fun r u' => wpY_possible (fun r' => r' = r ∧ i_Rel (k + 4) u' v) v) u := by
  obtain ⟨num, pa, op, sz, f, s, wo, ba, cnt, li, co, cs, rfl, rfl, h3, h4, h5⟩ := I
  unfold wpX_possible
  refine xw_number h3 h4 (fun num pa wo ba hn hN => ?_)
  unfold wpY_possible
  refine ⟨512, yw_poss 511 1 0 rfl ?_⟩
  rw [pq_poss h3]
  exact ⟨hN.1.symm, ow_mk h3 (fun _ => hN) h5⟩
theorem i_vc_times {k : Nat} {u : SX} {v : SY} (I : i_Rel k u v) (hk : k + 4 ≤ 2048) (v1 : Int32) : wpX_times (fun r u' => wpY_times (fun r' => r' = r ∧ i_Rel (k + 4) u' v) v v1) u v1 := by
  obtain ⟨num, pa, op, sz, f, s, wo, ba, cnt, li, co, cs, rfl, rfl, h3, h4, h5⟩ := I
  have h142 := pp_PL_len h3
  unfold wpX_times
  refine xw_number h3 h4 (fun num pa wo ba hn hN => ?_)
  refine xw_numberOf h3 hN (fun j p hp hc => ?_) (fun hc => ?_)
  · have hj := pp_some_lt hp
    have hm := List.mem_of_getElem? hp
    have hs := pp_PL_srt h3 hm
    have h6 : j < 160 := by omega
    dsimp only
    rw [xw_cl6 h6, h5.1 j p hp]
    refine br_t (nI_pos' (by omega)) ⟨xw_in6 h6, ?_⟩
    unfold wpY_times
    refine ⟨512, yw_time (fun n l1 l2 hY e => ?_) 511 1 rfl (Nat.le_refl _) (fun no => ?_)⟩
    · have hb := (pp_Y_in h3).mp hY
      rw [← hc, nI_eq (pp_code_31 (pp_bits_srt n)) (pp_code_31 hs)] at e
      have e2 := pp_code_inj (pp_bits_srt n).2 hs.2 (pp_PL_ne h3 hb) (pp_PL_ne h3 hm) e
      rw [← e2, pp_so_bits n l2]
      exact ⟨rfl, ow_mk h3 (fun _ => hN) h5⟩
    · refine absurd ?_ (no (pp_so p) (pp_so_pos (pp_PL_ne h3 hm)) (pp_so_lt hs) (pp_Y_so h3 hm))
      rw [pp_bits_so hs]
      exact hc
  · refine br_f (by decide) ?_
    unfold wpY_times
    refine ⟨512, yw_time (fun n l1 l2 hY e => ?_) 511 1 rfl (Nat.le_refl _) (fun no => ⟨rfl, ow_mk h3 (fun _ => hN) h5⟩)⟩
    exact absurd e (hc _ ((pp_Y_in h3).mp hY))
theorem i_vc_distinct {k : Nat} {u : SX} {v : SY} (I : i_Rel k u v) (hk : k + 4 ≤ 2048) : wpX_distinct (fun r u' => wpY_distinct (fun r' => r' = r ∧ i_Rel (k + 4) u' v) v) u := by
  obtain ⟨num, pa, op, sz, f, s, wo, ba, cnt, li, co, cs, rfl, rfl, h3, h4, h5⟩ := I
  have h142 := pp_PL_len h3
  unfold wpX_distinct
  refine xw_number h3 h4 (fun num pa wo ba hn hN => ?_)
  obtain ⟨hpa, hwo, hba⟩ := hN
  subst hpa
  refine ⟨_, xw_dist rfl h142 h5.1 _ 0 0 (Nat.zero_add _) ?_⟩
  unfold wpY_distinct
  refine ⟨512, yw_dist 511 1 0 rfl ?_⟩
  rw [pq_dist h3 h5]
  exact ⟨(pp_foldk [] (pp_xD cs) (pp_PL (pp_ti f) (pp_ti s)) 0).symm, ow_mk h3 (fun _ => ⟨rfl, hwo, hba⟩) h5⟩
theorem i_vc_gone {k : Nat} {u : SX} {v : SY} (I : i_Rel k u v) (hk : k + 4 ≤ 2048) : wpX_gone (fun r u' => wpY_gone (fun r' => r' = r ∧ i_Rel (k + 4) u' v) v) u := by
  obtain ⟨num, pa, op, sz, f, s, wo, ba, cnt, li, co, cs, rfl, rfl, h3, h4, h5⟩ := I
  have h142 := pp_PL_len h3
  unfold wpX_gone
  refine xw_number h3 h4 (fun num pa wo ba hn hN => ?_)
  obtain ⟨hpa, hwo, hba⟩ := hN
  subst hpa
  refine ⟨_, xw_gone rfl h142 h5.1 _ 0 0 (Nat.zero_add _) ?_⟩
  unfold wpY_gone
  refine ⟨512, yw_gone 511 1 0 rfl ?_⟩
  rw [pq_gone h3 h5]
  exact ⟨(pp_foldk [] (pp_xG cs) (pp_PL (pp_ti f) (pp_ti s)) 0).symm, ow_mk h3 (fun _ => ⟨rfl, hwo, hba⟩) h5⟩
theorem i_vc_hottest {k : Nat} {u : SX} {v : SY} (I : i_Rel k u v) (hk : k + 4 ≤ 2048) : wpX_hottest (fun r u' => wpY_hottest (fun r' => r' = r ∧ i_Rel (k + 4) u' v) v) u := by
  obtain ⟨num, pa, op, sz, f, s, wo, ba, cnt, li, co, cs, rfl, rfl, h3, h4, h5⟩ := I
  have h142 := pp_PL_len h3
  unfold wpX_hottest
  refine xw_number h3 h4 (fun num pa wo ba hn hN => ?_)
  obtain ⟨hpa, hwo, hba⟩ := hN
  subst hpa
  refine ⟨_, xw_hott h3 ⟨rfl, hwo, hba⟩ rfl h142 h5.1 _ 0 (-4) 0 sz li (Nat.zero_add _) (fun sz li => ?_)⟩
  unfold wpY_hottest
  refine ⟨512, yw_hott 511 1 (-4) 0 rfl ?_⟩
  rw [pq_hott h3 h5]
  exact ⟨congrArg Prod.fst (pp_foldk [] (pp_xH cs) (pp_PL (pp_ti f) (pp_ti s)) (-4, 0)).symm, ow_mk h3 (fun _ => ⟨rfl, hwo, hba⟩) h5⟩
theorem i_vc_path {k : Nat} {u : SX} {v : SY} (I : i_Rel k u v) (hk : k + 4 ≤ 2048) (v1 : Int32) : wpX_path (fun r u' => wpY_path (fun r' => r' = r ∧ i_Rel (k + 4) u' v) v v1) u v1 := by
  obtain ⟨num, pa, op, sz, f, s, wo, ba, cnt, li, co, cs, rfl, rfl, h3, h4, h5⟩ := I
  have h142 := pp_PL_len h3
  have hcode : ∀ p, p ∈ pp_PL (pp_ti f) (pp_ti s) → pp_code p < 2 ^ 31 := fun p hp => pp_code_31 (pp_PL_srt h3 hp)
  unfold wpX_path
  refine xw_number h3 h4 (fun num pa wo ba hn hN => ?_)
  obtain ⟨hpa, hwo, hba⟩ := hN
  subst hpa
  have yno : (∀ j, j < (pp_PL (pp_ti f) (pp_ti s)).length → ¬ v1 = nI j) → wpY_path (fun r' => r' = -4 ∧ i_Rel (k + 4) (num, nI (pp_PL (pp_ti f) (pp_ti s)).length, op, sz, f, s, wo, ba, cnt, li, co) (op, f, s, cs)) (op, f, s, cs) v1 := by
    intro no
    unfold wpY_path
    refine ⟨512, yw_path (rk := fun c => (List.range' 1 511).foldl (pp_yS (pp_ti f) (pp_ti s) c) 0) (fun _ => rfl) (fun n l1 l2 hY e => ?_) 511 1 rfl (Nat.le_refl _) (fun _ => ⟨rfl, ow_mk h3 (fun _ => ⟨rfl, hwo, hba⟩) h5⟩)⟩
    have hm := (pp_Y_in h3).mp hY
    rw [pq_less h3 (hcode _ hm)] at e
    refine absurd e.symm (no _ ?_)
    have le := List.countP_le_length (p := fun y => decide (y < pp_code (pp_bits n))) (l := (pp_PL (pp_ti f) (pp_ti s)).map pp_code)
    rw [List.length_map] at le
    rcases Nat.lt_or_ge (((pp_PL (pp_ti f) (pp_ti s)).map pp_code).countP (fun y => decide (y < pp_code (pp_bits n)))) (pp_PL (pp_ti f) (pp_ti s)).length with z | z
    · exact z
    · have eq : ((pp_PL (pp_ti f) (pp_ti s)).map pp_code).countP (fun y => decide (y < pp_code (pp_bits n))) = ((pp_PL (pp_ti f) (pp_ti s)).map pp_code).length := by
        rw [List.length_map]
        omega
      have := List.countP_eq_length.mp eq _ (List.mem_map_of_mem hm)
      rw [decide_eq_true_eq] at this
      omega
  refine br_c (fun c => yno (fun j hj z => ?_)) (fun c => br_c (fun c2 => ?_) (fun c2 => yno (fun j hj z => ?_)))
  · rw [z] at c
    exact nI_pos (by omega) c
  · obtain ⟨j, hj, rfl⟩ := nI_of c
    rw [nI_ltI hj (by omega)] at c2
    refine ⟨_, xw_p21 h3 ⟨rfl, hwo, hba⟩ rfl h142 (fun sz li co l s1 s2 s3 => ?_) _ 0 sz li co [] (Nat.zero_add _) List.Pairwise.nil (List.Perm.refl _) True.intro⟩
    have h6 : j < 160 := by omega
    refine ⟨xw_in6 h6, ?_⟩
    rw [xw_cl6 h6]
    have len : l.length = (pp_PL (pp_ti f) (pp_ti s)).length := by rw [s2.length_eq, List.length_map]
    have nd : ((pp_PL (pp_ti f) (pp_ti s)).map pp_code).Nodup := by
      refine List.pairwise_map.mpr (List.Pairwise.imp_of_mem ?_ (pp_nodup h3))
      intro a b ha hb hne e
      exact hne (pp_code_inj (pp_PL_srt h3 ha).2 (pp_PL_srt h3 hb).2 (pp_PL_ne h3 ha) (pp_PL_ne h3 hb) e)
    have st : l.Pairwise (fun a b => a < b) := (s1.and (s2.symm.nodup nd)).imp (fun h => by omega)
    obtain ⟨x, hx⟩ : ∃ x, l[j]? = some x := ⟨_, List.getElem?_eq_getElem (by omega)⟩
    have ex := pp_hl_at l 0 j x s3 hx
    rw [Nat.zero_add] at ex
    rw [ex]
    have rank : ∀ (i y : Nat), l[i]? = some y → y < 2 ^ 31 → (List.range' 1 511).foldl (pp_yS (pp_ti f) (pp_ti s) y) 0 = nI i := by
      intro i y hy h31
      rw [pq_less h3 h31, ← s2.countP_eq, pp_rank l st i y hy]
    have back : ∀ y, y ∈ l → ∃ p, p ∈ pp_PL (pp_ti f) (pp_ti s) ∧ pp_code p = y := fun y hy => List.mem_map.mp (s2.subset hy)
    unfold wpY_path
    refine ⟨512, yw_path (rk := fun c => (List.range' 1 511).foldl (pp_yS (pp_ti f) (pp_ti s) c) 0) (fun _ => rfl) (fun n l1 l2 hY e => ?_) 511 1 rfl (Nat.le_refl _) (fun no => ?_)⟩
    · have hm := (pp_Y_in h3).mp hY
      obtain ⟨i, hi⟩ := List.getElem?_of_mem (s2.symm.subset (List.mem_map_of_mem (f := pp_code) hm))
      have li2 := pp_some_lt hi
      rw [rank i _ hi (hcode _ hm), nI_eq (by omega) hj] at e
      rw [e, hx] at hi
      rw [← Option.some.inj hi]
      exact ⟨rfl, ow_mk h3 (fun _ => ⟨rfl, hwo, hba⟩) h5⟩
    · obtain ⟨p, hp, rfl⟩ := back x (List.mem_of_getElem? hx)
      have hs := pp_PL_srt h3 hp
      refine absurd ?_ (no (pp_so p) (pp_so_pos (pp_PL_ne h3 hp)) (pp_so_lt hs) (pp_Y_so h3 hp))
      rw [pp_bits_so hs]
      exact rank j _ hx (hcode p hp)
  · rw [z] at c2
    exact c2 (nI_lt hj (by omega))
theorem i_vc_through {k : Nat} {u : SX} {v : SY} (I : i_Rel k u v) (hk : k + 4 ≤ 2048) (v1 : Int32) : wpX_through (fun r u' => wpY_through (fun r' => r' = r ∧ i_Rel (k + 4) u' v) v v1) u v1 := by
  obtain ⟨num, pa, op, sz, f, s, wo, ba, cnt, li, co, cs, rfl, rfl, h3, h4, h5⟩ := I
  have h142 := pp_PL_len h3
  unfold wpX_through
  refine xw_bad (fun a1 a2 => br_t rfl (xw_number h3 h4 (fun num pa wo ba hn hN => ?_))) (fun a => br_f xw_1 ?_)
  · obtain ⟨hpa, hwo, hba⟩ := hN
    subst hpa
    have e := xw_of a1
    have hb : v1.toInt.toNat < 9 := by omega
    generalize v1.toInt.toNat = b at e hb
    subst e
    refine ⟨_, xw_thro h3 ⟨rfl, hwo, hba⟩ hb rfl h142 _ 0 0 sz li (Nat.zero_add _) (fun sz li => ?_)⟩
    unfold wpY_through
    refine yw_isBlock (fun _ _ => br_f xw_1 ⟨512, yw_thro hb 511 1 0 rfl ?_⟩) (fun z => absurd ⟨a1, a2⟩ z)
    rw [pq_thro h3 hb]
    exact ⟨(pp_foldk [] (pp_xT b) (pp_PL (pp_ti f) (pp_ti s)) 0).symm, ow_mk h3 (fun _ => ⟨rfl, hwo, hba⟩) h5⟩
  · unfold wpY_through
    exact yw_isBlock (fun z1 z2 => absurd ⟨z1, z2⟩ a) (fun _ => br_t rfl ⟨rfl, ow_mk h3 h4 h5⟩)
theorem i_vc_visits {k : Nat} {u : SX} {v : SY} (I : i_Rel k u v) (hk : k + 4 ≤ 2048) (v1 : Int32) : wpX_visits (fun r u' => wpY_visits (fun r' => r' = r ∧ i_Rel (k + 4) u' v) v v1) u v1 := by
  obtain ⟨num, pa, op, sz, f, s, wo, ba, cnt, li, co, cs, rfl, rfl, h3, h4, h5⟩ := I
  have h142 := pp_PL_len h3
  unfold wpX_visits
  refine xw_bad (fun a1 a2 => br_t rfl (xw_number h3 h4 (fun num pa wo ba hn hN => ?_))) (fun a => br_f xw_1 ?_)
  · obtain ⟨hpa, hwo, hba⟩ := hN
    subst hpa
    have e := xw_of a1
    have hb : v1.toInt.toNat < 9 := by omega
    generalize v1.toInt.toNat = b at e hb
    subst e
    refine ⟨_, xw_visi h3 ⟨rfl, hwo, hba⟩ hb rfl h142 h5.1 _ 0 0 sz li (Nat.zero_add _) (fun sz li => ?_)⟩
    unfold wpY_visits
    refine yw_isBlock (fun _ _ => br_f xw_1 ⟨512, yw_visi hb 511 1 0 rfl ?_⟩) (fun z => absurd ⟨a1, a2⟩ z)
    rw [pq_visi h3 h5 (by omega) hb]
    exact ⟨(pp_foldk [] (pp_xV cs b) (pp_PL (pp_ti f) (pp_ti s)) 0).symm, ow_mk h3 (fun _ => ⟨rfl, hwo, hba⟩) h5⟩
  · unfold wpY_visits
    exact yw_isBlock (fun z1 z2 => absurd ⟨z1, z2⟩ a) (fun _ => br_t rfl ⟨rfl, ow_mk h3 h4 h5⟩)
theorem i_vc_arc {k : Nat} {u : SX} {v : SY} (I : i_Rel k u v) (hk : k + 4 ≤ 2048) (v1 : Int32) (v2 : Int32) : wpX_arc (fun r u' => wpY_arc (fun r' => r' = r ∧ i_Rel (k + 4) u' v) v v1 v2) u v1 v2 := by
  obtain ⟨num, pa, op, sz, f, s, wo, ba, cnt, li, co, cs, rfl, rfl, h3, h4, h5⟩ := I
  have h142 := pp_PL_len h3
  unfold wpX_arc
  refine xw_number h3 h4 (fun num pa wo ba hn hN => ?_)
  obtain ⟨hpa, hwo, hba⟩ := hN
  subst hpa
  refine ⟨_, xw_arc h3 ⟨rfl, hwo, hba⟩ rfl h142 h5.1 _ 0 0 sz li (Nat.zero_add _) (fun sz li => ?_)⟩
  have ef := pp_foldk [] (pp_xA cs v1 v2) (pp_PL (pp_ti f) (pp_ti s)) 0
  refine yw_arcT (fun no => ?_) (fun b c e1 e2 l1 l2 => ?_)
  · rw [pq_arc0 (fun p hp z => no (pp_adj_PL h3 hp z))] at ef
    exact ⟨ef.symm, ow_mk h3 (fun _ => ⟨rfl, hwo, hba⟩) h5⟩
  · unfold wY_arc_43
    refine nm_e (nm_e ⟨512, yw_arc 511 1 0 rfl ?_⟩)
    subst e1 e2
    rw [pq_arc (v := nI b) (w := nI c) h3 h5 (by omega) (fun n hn => yw_mask l1 l2 hn)]
    exact ⟨ef.symm, ow_mk h3 (fun _ => ⟨rfl, hwo, hba⟩) h5⟩
theorem i_vc_unfinished {k : Nat} {u : SX} {v : SY} (I : i_Rel k u v) (hk : k + 4 ≤ 2048) : wpX_unfinished (fun r => wpY_unfinished (fun r' => r' = r ∧ i_Rel (k + 4) u v) v) u := by
  have I' := i_up I
  obtain ⟨num, pa, op, sz, f, s, wo, ba, cnt, li, co, cs, rfl, rfl, h3, h4, h5⟩ := I
  exact ⟨rfl, I'⟩
theorem i_vc_longest {k : Nat} {u : SX} {v : SY} (I : i_Rel k u v) (hk : k + 4 ≤ 2048) : wpX_longest (fun r u' => wpY_longest (fun r' => r' = r ∧ i_Rel (k + 4) u' v) v) u := by
  obtain ⟨num, pa, op, sz, f, s, wo, ba, cnt, li, co, cs, rfl, rfl, h3, h4, h5⟩ := I
  have h142 := pp_PL_len h3
  unfold wpX_longest
  refine xw_number h3 h4 (fun num pa wo ba hn hN => ?_)
  obtain ⟨hpa, hwo, hba⟩ := hN
  subst hpa
  refine ⟨_, xw_long h3 ⟨rfl, hwo, hba⟩ rfl h142 _ 0 0 sz li (Nat.zero_add _) (fun sz li => ?_)⟩
  unfold wpY_longest
  refine ⟨512, yw_long 511 1 0 rfl ?_⟩
  rw [pq_long h3]
  exact ⟨(pp_foldk [] pp_xL (pp_PL (pp_ti f) (pp_ti s)) 0).symm, ow_mk h3 (fun _ => ⟨rfl, hwo, hba⟩) h5⟩
end
