section
/-! rows of the kit, pasted (PURE-ROWS, BITS) -/
theorem pk_us {f : Nat → Int32} {k : Nat} {x : Int32} : upd f k x k = x := if_pos rfl
theorem pk_un {f : Nat → Int32} {k j : Nat} {x : Int32} (h : j ≠ k) : upd f k x j = f j := if_neg h
theorem pk_sub {a b : Nat} (h : b ≤ a) : nI a - nI b = nI (a - b) := by
  obtain ⟨c, rfl⟩ : ∃ c, a = c + b := ⟨a - b, by omega⟩
  rw [← nI_add, Int32.add_sub_cancel, Nat.add_sub_cancel]
theorem pk_m1 (n : Nat) : nI (n + 1) + (-1) = nI n := by
  rw [← nI_1, Int32.add_assoc, show (1 : Int32) + (-1) = 0 from rfl, Int32.add_zero]
theorem pk_mul (a b : Nat) : nI a * nI b = nI (a * b) := (Int32.ofNat_mul a b).symm
theorem pk_ix (x : Int32) {n : Nat} (hn : n < 2 ^ 31) : x < 0 ∨ nI n ≤ x ∨ ∃ j : Nat, j < n ∧ x = nI j := by
  by_cases h : x < 0
  · exact Or.inl h
  · obtain ⟨j, hj, rfl⟩ := nI_of h
    by_cases h2 : j < n
    · exact Or.inr (Or.inr ⟨j, h2, rfl⟩)
    · exact Or.inr (Or.inl (nI_le (by omega) hj))
theorem pk_le {x y : Int32} {A B : Prop} (a b : Nat) (f : a ≤ b → A) (g : b < a → B) (hx : x = nI a := by rfl) (hy : y = nI b := by rfl) (ha : a < 2 ^ 31 := by omega) (hb : b < 2 ^ 31 := by omega) : (x ≤ y → A) ∧ (¬ x ≤ y → B) := by
  subst hx hy
  rw [nI_leI ha hb]
  exact ⟨f, fun z => g (by omega)⟩
theorem pk_lt {x y : Int32} {A B : Prop} (a b : Nat) (f : a < b → A) (g : b ≤ a → B) (hx : x = nI a := by rfl) (hy : y = nI b := by rfl) (ha : a < 2 ^ 31 := by omega) (hb : b < 2 ^ 31 := by omega) : (x < y → A) ∧ (¬ x < y → B) := by
  subst hx hy
  rw [nI_ltI ha hb]
  exact ⟨f, fun z => g (by omega)⟩
theorem pk_eq {x y : Int32} {A B : Prop} (a b : Nat) (f : a = b → A) (g : a ≠ b → B) (hx : x = nI a := by rfl) (hy : y = nI b := by rfl) (ha : a < 2 ^ 31 := by omega) (hb : b < 2 ^ 31 := by omega) : (x = y → A) ∧ (¬ x = y → B) := by
  subst hx hy
  rw [nI_eq ha hb]
  exact ⟨f, g⟩
theorem pk_in {x : Int32} (n N : Nat) (h : n < N) (hx : x = nI n := by rfl) (hN : N < 2 ^ 31 := by omega) : vp_in x N := by
  subst hx
  exact vp_in_nI h hN
theorem pk_cl {x : Int32} (n : Nat) (hx : x = nI n := by rfl) (h : n < 2 ^ 31 := by omega) : x.toNatClampNeg = n := by
  subst hx
  exact nI_clamp h
theorem pk_sub_toInt {a b : Nat} (ha : a < 2 ^ 30) (hb : b < 2 ^ 30) : (nI a - nI b).toInt = (a : Int) - b := by
  rw [Int32.toInt_sub, nI_toInt (by omega), nI_toInt (by omega)]
  exact Int.bmod_eq_of_le (by omega) (by omega)
def bt (x : Int32) (i : Nat) : Bool := x.toBitVec.getLsbD i
theorem b_ext {x y : Int32} (h : ∀ i, i < 32 → bt x i = bt y i) : x = y := Int32.toBitVec_inj.mp (BitVec.eq_of_getLsbD_eq (fun i hi => h i hi))
theorem b_or (x y : Int32) (i : Nat) : bt (x ||| y) i = (bt x i || bt y i) := by unfold bt; rw [Int32.toBitVec_or, BitVec.getLsbD_or]
theorem b_and (x y : Int32) (i : Nat) : bt (x &&& y) i = (bt x i && bt y i) := by unfold bt; rw [Int32.toBitVec_and, BitVec.getLsbD_and]
theorem b_xor (x y : Int32) (i : Nat) : bt (x ^^^ y) i = (bt x i ^^ bt y i) := by unfold bt; rw [Int32.toBitVec_xor, BitVec.getLsbD_xor]
theorem b_big {x : Int32} {i : Nat} (h : 32 ≤ i) : bt x i = false := BitVec.getLsbD_of_ge _ _ h
theorem b_m1 : ∀ i, i < 32 → bt (-1) i = true := by decide +kernel
theorem b_0 (i : Nat) : bt 0 i = false := BitVec.getLsbD_zero
theorem s_l : ∀ n, n < 32 → ((nI n &&& 31).toBitVec.smod 32).toNat = n := by decide +kernel
theorem b_shl (n : Nat) (hn : n < 32) (x : Int32) {i : Nat} (hi : i < 32) : bt (x <<< (nI n &&& 31)) i = (decide (n ≤ i) && bt x (i - n)) := by
  unfold bt
  rw [Int32.toBitVec_shiftLeft]
  show (x.toBitVec <<< ((nI n &&& 31).toBitVec.smod 32).toNat).getLsbD i = _
  rw [s_l n hn, BitVec.getLsbD_shiftLeft]
  rcases Nat.lt_or_ge i n with h | h
  · simp [h, Nat.not_le.mpr h]
  · simp [hi, h, Nat.not_lt.mpr h]
theorem b_sshr (n : Nat) (hn : n < 32) (x : Int32) {i : Nat} (hi : i < 32) : bt (x >>> (nI n &&& 31)) i = if n + i < 32 then bt x (n + i) else bt x 31 := by
  unfold bt
  rw [Int32.toBitVec_shiftRight]
  show (x.toBitVec.sshiftRight ((nI n &&& 31).toBitVec.smod 32).toNat).getLsbD i = _
  rw [s_l n hn, BitVec.getLsbD_sshiftRight, BitVec.msb_eq_getLsbD_last]
  simp [hi]
end
section
/-! numbers, bits, counting, lists -/
theorem eh_b7 : ∀ k, k < 128 → (nI k).toInt8.toInt32 = nI k := by decide +kernel
theorem eh_nb {k : Nat} (h : k < 128) : vp_nar .byte (nI k) = nI k := by rw [vp_nar_byte]; exact eh_b7 k h
theorem eh_nb2 {k : Nat} (h : k < 128) : vp_nar .byte (nI k).toInt8.toInt32 = nI k := by rw [eh_b7 k h]; exact eh_nb h
theorem eh_nbm : vp_nar .byte (-1) = -1 := by rw [vp_nar_byte]; decide
theorem eh_m8 : (-1 : Int32).toInt8.toInt32 = -1 := by decide
theorem eh_nbm2 : vp_nar .byte (-1 : Int32).toInt8.toInt32 = -1 := by rw [eh_m8]; exact eh_nbm
theorem eh_z1 : vp_nar .boolean 1 = 1 := rfl
theorem eh_z0 : vp_nar .boolean 0 = 0 := rfl
theorem eh_m1lt : (-1 : Int32) < 0 := by decide
theorem eh_m1le : ¬ (0 : Int32) ≤ -1 := by decide
theorem eh_m1ne {k : Nat} (h : k < 2 ^ 31) : (-1 : Int32) ≠ nI k := by
  intro e
  have h1 := nI_pos' h
  rw [← e] at h1
  exact eh_m1le h1
theorem eh_pls {s i : Nat} : nI s * 20 + nI i = nI (s * 20 + i) := by
  show nI s * nI 20 + nI i = _
  rw [pk_mul, nI_add]
theorem eh_plt {s i : Nat} (hs : s ≤ 1) : ((1 - nI s) * 20) + nI i = nI ((1 - s) * 20 + i) := by
  show ((nI 1 - nI s) * nI 20) + nI i = _
  rw [pk_sub hs, pk_mul, nI_add]
theorem eh_1s {s : Nat} (hs : s ≤ 1) : 1 - nI s = nI (1 - s) := pk_sub (a := 1) hs
theorem eh_one : ∀ o, o < 32 → ∀ i, i < 32 → bt ((1 : Int32) <<< (nI o &&& 31)) i = decide (i = o) := by decide +kernel
theorem eh_b1 : ∀ i, i < 32 → bt 1 i = decide (i = 0) := by decide +kernel
theorem eh_bitv (x : Int32) {o : Nat} (h : o < 32) : ((x >>> (nI o &&& 31)) &&& 1) = if bt x o = true then 1 else 0 := by
  apply b_ext
  intro i hi
  rw [b_and, b_sshr o h x hi, eh_b1 i hi]
  by_cases h0 : i = 0
  · subst h0
    rw [if_pos (show o + 0 < 32 from h)]
    show (bt x o && decide (0 = 0)) = _
    cases bt x o
    · rw [if_neg (by decide), b_0]; rfl
    · rw [if_pos rfl, eh_b1 0 (by omega)]; rfl
  · rw [decide_eq_false h0, Bool.and_false]
    cases bt x o
    · rw [if_neg (by decide), b_0]
    · rw [if_pos rfl, eh_b1 i hi, decide_eq_false h0]
theorem eh_t0 (x : Int32) {o : Nat} (h : o < 32) : ((x >>> (nI o &&& 31)) &&& 1) = 0 ↔ bt x o = false := by
  rw [eh_bitv x h]; cases bt x o <;> decide
theorem eh_t1 (x : Int32) {o : Nat} (h : o < 32) : ((x >>> (nI o &&& 31)) &&& 1) = 1 ↔ bt x o = true := by
  rw [eh_bitv x h]; cases bt x o <;> decide
theorem eh_not (x : Int32) {i : Nat} (hi : i < 32) : bt (x ^^^ (-1)) i = !bt x i := by
  rw [b_xor, b_m1 i hi, Bool.xor_true]
theorem eh_bt32 {x : Int32} {i : Nat} (h : bt x i = true) : i < 32 := by
  rcases Nat.lt_or_ge i 32 with h1 | h1
  · exact h1
  · rw [b_big h1] at h; exact absurd h (by decide)
/-- the bits of x are the set S -/
def eh_set (x : Int32) (S : Nat → Prop) : Prop := ∀ i, i < 32 → (bt x i = true ↔ S i)
theorem eh_set_u {x y : Int32} {S : Nat → Prop} (h : eh_set x S) (g : eh_set y S) : x = y := by
  apply b_ext
  intro i hi
  exact Bool.eq_iff_iff.mpr ((h i hi).trans (g i hi).symm)
theorem eh_set_c {x : Int32} {S T : Nat → Prop} (h : eh_set x S) (g : ∀ i, i < 32 → (S i ↔ T i)) : eh_set x T := fun i hi => (h i hi).trans (g i hi)
theorem eh_set_0 {S : Nat → Prop} (h : ∀ i, ¬ S i) : eh_set 0 S := by
  intro i _
  rw [b_0]
  exact ⟨fun z => absurd z (by decide), fun z => absurd z (h i)⟩
theorem eh_set_or {x y : Int32} {S T : Nat → Prop} (h : eh_set x S) (g : eh_set y T) : eh_set (x ||| y) (fun i => S i ∨ T i) := by
  intro i hi
  rw [b_or, Bool.or_eq_true]
  exact or_congr (h i hi) (g i hi)
theorem eh_set_and {x y : Int32} {S T : Nat → Prop} (h : eh_set x S) (g : eh_set y T) : eh_set (x &&& y) (fun i => S i ∧ T i) := by
  intro i hi
  rw [b_and, Bool.and_eq_true]
  exact and_congr (h i hi) (g i hi)
theorem eh_set_not {x : Int32} {S : Nat → Prop} (h : eh_set x S) : eh_set (x ^^^ (-1)) (fun i => ¬ S i) := by
  intro i hi
  rw [eh_not x hi]
  have := h i hi
  cases hb : bt x i
  · rw [hb] at this
    exact ⟨fun _ z => absurd (this.mpr z) (by decide), fun _ => rfl⟩
  · rw [hb] at this
    exact ⟨fun z => absurd z (by decide), fun z => absurd (this.mp rfl) z⟩
theorem eh_set_one {o : Nat} (ho : o < 32) : eh_set ((1 : Int32) <<< (nI o &&& 31)) (fun i => i = o) := by
  intro i hi
  rw [eh_one o ho i hi, decide_eq_true_iff]
theorem eh_set_f {x : Int32} {S : Nat → Prop} (h : eh_set x S) {i : Nat} (hi : i < 32) : bt x i = false ↔ ¬ S i := by
  have := h i hi
  cases hb : bt x i
  · rw [hb] at this
    exact ⟨fun _ z => absurd (this.mpr z) (by decide), fun _ => rfl⟩
  · rw [hb] at this
    exact ⟨fun z => absurd z (by decide), fun z => absurd (this.mp rfl) z⟩
theorem eh_set_t0 {x : Int32} {S : Nat → Prop} (h : eh_set x S) {o : Nat} (ho : o < 32) : ((x >>> (nI o &&& 31)) &&& 1) = 0 ↔ ¬ S o := (eh_t0 x ho).trans (eh_set_f h ho)
theorem eh_set_t1 {x : Int32} {S : Nat → Prop} (h : eh_set x S) {o : Nat} (ho : o < 32) : ((x >>> (nI o &&& 31)) &&& 1) = 1 ↔ S o := (eh_t1 x ho).trans (h o ho)
theorem eh_set_bt (x : Int32) : eh_set x (fun i => bt x i = true) := fun _ _ => Iff.rfl
theorem eh_set_z {x : Int32} {S : Nat → Prop} (h : eh_set x S) : x = 0 ↔ ∀ i, i < 32 → ¬ S i := by
  constructor
  · intro e i hi
    rw [← eh_set_f h hi, e, b_0]
  · intro e
    apply b_ext
    intro i hi
    rw [b_0, eh_set_f h hi]
    exact e i hi

/-- how many numbers below n have p -/
def eh_cn (p : Nat → Bool) : Nat → Nat
  | 0 => 0
  | n + 1 => eh_cn p n + (p n).toNat
theorem eh_cn_le (p : Nat → Bool) : ∀ n, eh_cn p n ≤ n := by
  intro n
  induction n with
  | zero => exact Nat.le_refl _
  | succ n ih =>
    show eh_cn p n + (p n).toNat ≤ n + 1
    have := Bool.toNat_le (p n)
    omega
theorem eh_cn_c {p q : Nat → Bool} : ∀ n, (∀ j, j < n → p j = q j) → eh_cn p n = eh_cn q n := by
  intro n
  induction n with
  | zero => intro _; rfl
  | succ n ih =>
    intro h
    show eh_cn p n + (p n).toNat = eh_cn q n + (q n).toNat
    rw [ih (fun j hj => h j (by omega)), h n (by omega)]
theorem eh_cn_m {p q : Nat → Bool} : ∀ n, (∀ j, j < n → p j = true → q j = true) → eh_cn p n ≤ eh_cn q n := by
  intro n
  induction n with
  | zero => intro _; exact Nat.le_refl _
  | succ n ih =>
    intro h
    show eh_cn p n + (p n).toNat ≤ eh_cn q n + (q n).toNat
    have h1 := ih (fun j hj => h j (by omega))
    have h2 := h n (by omega)
    have h3 : (p n).toNat ≤ (q n).toNat := by
      cases hp : p n
      · exact Nat.zero_le _
      · rw [h2 hp]; exact Nat.le_refl _
    omega
theorem eh_cn_lt {p q : Nat → Bool} {k : Nat} (hp : p k = false) (hq : q k = true) : ∀ n, k < n → (∀ j, j < n → p j = true → q j = true) → eh_cn p n < eh_cn q n := by
  intro n
  induction n with
  | zero => intro h; omega
  | succ n ih =>
    intro hk h
    show eh_cn p n + (p n).toNat < eh_cn q n + (q n).toNat
    by_cases e : k = n
    · subst e
      have h1 := eh_cn_m k (fun j hj => h j (by omega))
      rw [hp, hq]
      show eh_cn p k + 0 < eh_cn q k + 1
      omega
    · have h1 := ih (by omega) (fun j hj => h j (by omega))
      have h2 := h n (by omega)
      have h3 : (p n).toNat ≤ (q n).toNat := by
        cases hp : p n
        · exact Nat.zero_le _
        · rw [h2 hp]; exact Nat.le_refl _
      omega
theorem eh_cn_s (p q : Nat → Bool) : ∀ n, eh_cn p n = eh_cn (fun j => p j && q j) n + eh_cn (fun j => p j && !q j) n := by
  intro n
  induction n with
  | zero => rfl
  | succ n ih =>
    show eh_cn p n + (p n).toNat = (eh_cn (fun j => p j && q j) n + (p n && q n).toNat) + (eh_cn (fun j => p j && !q j) n + (p n && !q n).toNat)
    have h3 : (p n).toNat = (p n && q n).toNat + (p n && !q n).toNat := by
      cases p n <;> cases q n <;> rfl
    omega
theorem eh_cn_1 {p q : Nat → Bool} {k : Nat} (hp : p k = false) (hq : q k = true) : ∀ n, k < n → (∀ j, j ≠ k → q j = p j) → eh_cn q n = eh_cn p n + 1 := by
  intro n
  induction n with
  | zero => intro h; omega
  | succ n ih =>
    intro hk h
    show eh_cn q n + (q n).toNat = eh_cn p n + (p n).toNat + 1
    by_cases e : k = n
    · subst e
      have h1 := eh_cn_c (p := q) (q := p) k (fun j hj => h j (by omega))
      rw [hp, hq, h1]
      rfl
    · have h1 := ih (by omega) h
      rw [h n (by omega)]
      omega
theorem eh_cn_l {n : Nat} : ∀ l : List Nat, l.Nodup → (∀ x, x ∈ l → x < n) → eh_cn (fun j => decide (j ∈ l)) n = l.length := by
  intro l
  induction l with
  | nil =>
    intro _ _
    have : ∀ m, eh_cn (fun j => decide (j ∈ ([] : List Nat))) m = 0 := by
      intro m
      induction m with
      | zero => rfl
      | succ m ih =>
        show eh_cn _ m + (decide (m ∈ ([] : List Nat))).toNat = 0
        rw [ih, decide_eq_false (List.not_mem_nil)]
        rfl
    exact this n
  | cons a l ih =>
    intro hn hl
    have hn' := List.nodup_cons.mp hn
    have h1 := ih hn'.2 (fun x hx => hl x (List.mem_cons_of_mem a hx))
    have h2 := eh_cn_1 (p := fun j => decide (j ∈ l)) (q := fun j => decide (j ∈ a :: l)) (k := a) (decide_eq_false hn'.1) (decide_eq_true List.mem_cons_self) n (hl a List.mem_cons_self) (fun j hj => by
      apply decide_eq_decide.mpr
      rw [List.mem_cons]
      exact ⟨fun z => z.resolve_left hj, Or.inr⟩)
    rw [h2, h1]
    rfl
theorem eh_len {n : Nat} {l : List Nat} (h : l.Nodup) (g : ∀ x, x ∈ l → x < n) : l.length ≤ n := by
  rw [← eh_cn_l l h g]
  exact eh_cn_le _ n
theorem eh_lenlt {n a : Nat} {l : List Nat} (h : l.Nodup) (g : ∀ x, x ∈ l → x < n) (ha : a < n) (hl : a ∉ l) : l.length < n := by
  have h1 : (a :: l).Nodup := List.nodup_cons.mpr ⟨hl, h⟩
  have h2 := eh_len (n := n) h1 (fun x hx => by
    rcases List.mem_cons.mp hx with e | e
    · rw [e]; exact ha
    · exact g x e)
  exact h2
theorem eh_ndc {a : Nat} {l : List Nat} (h : l.Nodup) (hl : a ∉ l) : (l ++ [a]).Nodup := by
  rw [List.nodup_append]
  refine ⟨h, List.nodup_cons.mpr ⟨List.not_mem_nil, List.nodup_nil⟩, ?_⟩
  intro x hx y hy e
  rw [List.mem_singleton] at hy
  rw [e, hy] at hx
  exact hl hx
theorem eh_ltl {l : List Nat} {i a : Nat} (h : l[i]? = some a) : i < l.length := (List.getElem?_eq_some_iff.mp h).1
theorem eh_gx {l : List Nat} {i : Nat} (h : i < l.length) : ∃ a, l[i]? = some a := ⟨l[i], List.getElem?_eq_some_iff.mpr ⟨h, rfl⟩⟩
theorem eh_inj {l : List Nat} {i j a : Nat} (hn : l.Nodup) (h : l[i]? = some a) (g : l[j]? = some a) : i = j :=
  (List.getElem?_inj (eh_ltl h) hn).mp (h.trans g.symm)
theorem eh_ap {l : List Nat} {b i a : Nat} (h : (l ++ [b])[i]? = some a) : (l[i]? = some a) ∨ (i = l.length ∧ a = b) := by
  rw [List.getElem?_append] at h
  by_cases g : i < l.length
  · rw [if_pos g] at h; exact Or.inl h
  · rw [if_neg g] at h
    have h1 : i - l.length < ([b] : List Nat).length := eh_ltl h
    have h2 : i - l.length = 0 := Nat.lt_one_iff.mp h1
    rw [h2] at h
    refine Or.inr ⟨by omega, ?_⟩
    exact (Option.some.inj h).symm
theorem eh_apl {l : List Nat} {i a : Nat} (T : List Nat) (h : l[i]? = some a) : (l ++ T)[i]? = some a := by
  rw [List.getElem?_append_left (eh_ltl h)]; exact h
theorem eh_apr {l : List Nat} {b : Nat} : (l ++ [b])[l.length]? = some b := List.getElem?_concat_length

/-- L' goes on from L -/
def eh_ext (L L' : List Nat) : Prop := ∃ T : List Nat, L' = L ++ T
theorem eh_ext_r (L : List Nat) : eh_ext L L := ⟨[], (List.append_nil L).symm⟩
theorem eh_ext_t {L M N : List Nat} (h : eh_ext L M) (g : eh_ext M N) : eh_ext L N := by
  obtain ⟨T, rfl⟩ := h
  obtain ⟨U, rfl⟩ := g
  exact ⟨T ++ U, List.append_assoc L T U⟩
theorem eh_ext_i {L M : List Nat} (h : eh_ext L M) {i a : Nat} (g : L[i]? = some a) : M[i]? = some a := by
  obtain ⟨T, rfl⟩ := h
  exact eh_apl T g
theorem eh_ext_m {L M : List Nat} (h : eh_ext L M) {a : Nat} (g : a ∈ L) : a ∈ M := by
  obtain ⟨T, rfl⟩ := h
  exact List.mem_append_left T g
theorem eh_ext_l {L M : List Nat} (h : eh_ext L M) : L.length ≤ M.length := by
  obtain ⟨T, rfl⟩ := h
  rw [List.length_append]; omega
theorem eh_ext_e {L M : List Nat} (h : eh_ext L M) (g : M.length ≤ L.length) : M = L := by
  obtain ⟨T, rfl⟩ := h
  rw [List.length_append] at g
  have : T = [] := List.length_eq_zero_iff.mp (by omega)
  rw [this, List.append_nil]
theorem eh_ext_b {L M N : List Nat} (h : eh_ext L M) (g : eh_ext M N) (e : N = L) : M = L ∧ N = M := by
  have h1 := eh_ext_l h
  have h2 := eh_ext_l g
  rw [e] at h2
  have h3 := eh_ext_e h h2
  exact ⟨h3, e.trans h3.symm⟩

/-- a list with one more target (0: none; o + 1: o) -/
def eh_add (L : List Nat) : Nat → List Nat
  | 0 => L
  | o + 1 => if o ∈ L then L else L ++ [o]
theorem eh_add_x (L : List Nat) (t : Nat) : eh_ext L (eh_add L t) := by
  cases t with
  | zero => exact eh_ext_r L
  | succ o =>
    show eh_ext L (if o ∈ L then L else L ++ [o])
    by_cases h : o ∈ L
    · rw [if_pos h]; exact eh_ext_r L
    · rw [if_neg h]; exact ⟨[o], rfl⟩
theorem eh_add_i (L : List Nat) {t o : Nat} (h : t = o + 1) : o ∈ eh_add L t := by
  subst h
  show o ∈ (if o ∈ L then L else L ++ [o])
  by_cases h : o ∈ L
  · rw [if_pos h]; exact h
  · rw [if_neg h]; exact List.mem_append_right L List.mem_cons_self
theorem eh_add_o (L : List Nat) {t a : Nat} (h : a ∈ eh_add L t) : a ∈ L ∨ t = a + 1 := by
  cases t with
  | zero => exact Or.inl h
  | succ o =>
    have h' : a ∈ (if o ∈ L then L else L ++ [o]) := h
    by_cases g : o ∈ L
    · rw [if_pos g] at h'; exact Or.inl h'
    · rw [if_neg g] at h'
      rcases List.mem_append.mp h' with h2 | h2
      · exact Or.inl h2
      · rw [List.mem_singleton] at h2; rw [h2]; exact Or.inr rfl

/-- what is alive: o asks of S -/
def eh_ok (K A B : Nat → Nat) (S : Nat → Prop) (o : Nat) : Prop := (∀ a, K o = 0 → A o = a + 1 → S a) ∧ (∀ b, K o ≠ 2 → B o = b + 1 → S b) ∧ (∀ a b, K o = 2 → A o = a + 1 → S a → B o = b + 1 → S b)
def eh_cl (K A B : Nat → Nat) (S : Nat → Prop) : Prop := ∀ o, S o → eh_ok K A B S o
def eh_st (R : Nat → Nat) (Q : List Nat) (S : Nat → Prop) : Prop := (∀ r o, r < 4 → R r = o + 1 → S o) ∧ (∀ o, o ∈ Q → S o)
def eh_lv (K A B R : Nat → Nat) (Q : List Nat) (i : Nat) : Prop := ∀ S : Nat → Prop, eh_cl K A B S → eh_st R Q S → S i
theorem eh_lv_cl (K A B R : Nat → Nat) (Q : List Nat) : eh_cl K A B (eh_lv K A B R Q) := by
  intro o ho
  refine ⟨fun a h1 h2 S hS hT => (hS o (ho S hS hT)).1 a h1 h2, fun b h1 h2 S hS hT => (hS o (ho S hS hT)).2.1 b h1 h2, fun a b h1 h2 h3 h4 S hS hT => (hS o (ho S hS hT)).2.2 a b h1 h2 (h3 S hS hT) h4⟩
theorem eh_lv_st (K A B R : Nat → Nat) (Q : List Nat) : eh_st R Q (eh_lv K A B R Q) :=
  ⟨fun r o hr e S _ hT => hT.1 r o hr e, fun o ho S _ hT => hT.2 o ho⟩
/-- a closed set with the start, below every closed set with the start, is what is alive -/
theorem eh_lv_is {K A B R : Nat → Nat} {Q : List Nat} {T : Nat → Prop} (hc : eh_cl K A B T) (hs : eh_st R Q T) (hb : ∀ S : Nat → Prop, eh_cl K A B S → eh_st R Q S → ∀ i, T i → S i) (i : Nat) : T i ↔ eh_lv K A B R Q i :=
  ⟨fun h S hS hT => hb S hS hT i h, fun h => h T hc hs⟩
/-- bounds of the graph -/
def eh_bd (K A B : Nat → Nat) : Prop := ∀ o, o < 20 → K o ≤ 2 ∧ A o ≤ 20 ∧ B o ≤ 20
theorem eh_cl20 {K A B : Nat → Nat} (h : eh_bd K A B) : eh_cl K A B (fun i => i < 20) := by
  intro o ho
  have h1 := h o ho
  refine ⟨fun a _ e => ?_, fun b _ e => ?_, fun a b _ _ _ e => ?_⟩
  · show a < 20; omega
  · show b < 20; omega
  · show b < 20; omega
end
section
/-! the reference's living: the least closed set -/
def eh_YG (K A B R : Nat → Nat) (Q : List Nat) (ky aa bb ry qy : Nat → Int32) : Prop :=
  (∀ o, o < 20 → ky o = nI (K o) ∧ aa o = nI (A o) ∧ bb o = nI (B o)) ∧ (∀ r, r < 4 → ry r = nI (R r)) ∧ (∀ i o, Q[i]? = some o → qy i = nI o)
def eh_pa (K A B : Nat → Nat) (o : Nat) (x x' : Int32) : Prop := (∀ i, bt x i = true → bt x' i = true) ∧ (∀ S : Nat → Prop, eh_cl K A B S → (∀ i, bt x i = true → S i) → ∀ i, bt x' i = true → S i) ∧ (x' = x → ∀ j, o ≤ j → j < 20 → bt x j = true → eh_ok K A B (fun i => bt x i = true) j)
theorem eh_beq {x y : Int32} (h : ∀ i, bt x i = true → bt y i = true) (g : ∀ i, bt y i = true → bt x i = true) : x = y :=
  b_ext (fun i _ => Bool.eq_iff_iff.mpr ⟨h i, g i⟩)
section
variable {K A B R : Nat → Nat} {Q : List Nat} {wt : Int32} {he ky ey aa bb ry qy : Nat → Int32}
theorem eh_pa_s {o : Nat} {x y x' : Int32} (h1 : ∀ i, bt x i = true → bt y i = true) (h2 : ∀ S : Nat → Prop, eh_cl K A B S → (∀ i, bt x i = true → S i) → ∀ i, bt y i = true → S i) (h3 : y = x → bt x o = true → eh_ok K A B (fun i => bt x i = true) o) (g : eh_pa K A B (o + 1) y x') : eh_pa K A B o x x' := by
  refine ⟨fun i hi => g.1 i (h1 i hi), fun S hS hx => g.2.1 S hS (h2 S hS hx), ?_⟩
  intro e j hj hj2 hb
  have e1 : y = x := eh_beq (fun i z => by rw [← e]; exact g.1 i z) h1
  by_cases ej : j = o
  · rw [ej]; rw [ej] at hb; exact h3 e1 hb
  · subst e1
    exact g.2.2 e j (by omega) hj2 hb
theorem eh_pa_or {o : Nat} {x m x' : Int32} {T : Nat → Prop} (hm : eh_set m T) (h32 : ∀ i, T i → i < 32) (ho : bt x o = true) (hin : ∀ S : Nat → Prop, eh_ok K A B S o → (∀ i, bt x i = true → S i) → ∀ i, T i → S i) (hk : (∀ i, T i → bt x i = true) → eh_ok K A B (fun i => bt x i = true) o) (g : eh_pa K A B (o + 1) (x ||| m) x') : eh_pa K A B o x x' := by
  have h1 : ∀ i, bt x i = true → bt (x ||| m) i = true := fun i h => by rw [b_or, h, Bool.true_or]
  refine eh_pa_s (y := x ||| m) h1 ?_ ?_ g
  · intro S hS hx i hi
    have h32i := eh_bt32 hi
    rw [b_or, Bool.or_eq_true] at hi
    rcases hi with h | h
    · exact hx i h
    · exact hin S (hS o (hx o ho)) hx i ((hm i h32i).mp h)
  · intro e _
    refine hk (fun i hi => ?_)
    rw [← e, b_or, (hm i (h32 i hi)).mpr hi, Bool.or_true]
theorem eh_ybit {post : Int32 → Prop} {t : Nat} (ht : t ≤ 20) (k : ∀ z, eh_set z (fun i => t = i + 1) → post z) : wpY_bit post (wt, he, ky, ey, aa, bb, ry, qy) (nI t) := by
  cases t with
  | zero => exact br_t (show nI 0 ≤ 0 by rw [nI_0]; decide) (k 0 (eh_set_0 (fun i (z : 0 = i + 1) => by omega)))
  | succ o =>
    refine br_f (nI_nle (by omega) (by omega)) ?_
    rw [nI_pred]
    exact k _ (eh_set_c (eh_set_one (by omega)) (fun i _ => show i = o ↔ o + 1 = i + 1 by omega))
theorem eh_y65 {post : Int32 → Prop} {J : Int32 → Int32 → Prop} {p : Int32} (hG : eh_YG K A B R Q ky aa bb ry qy) (hb : eh_bd K A B) : ∀ d o x, o + d = 20 → (∀ x', eh_pa K A B o x x' → J x' (p + 1)) → wY_living_65 post J p wt he ky ey aa bb ry qy (d + 1) x (nI o) := by
  intro d
  induction d with
  | zero =>
    intro o x ho k
    have e : o = 20 := by omega
    subst e
    refine br_t (show (20 : Int32) ≤ nI 20 from nI_le (Nat.le_refl 20) (by decide)) ?_
    exact nm_e (k x ⟨fun i h => h, fun S _ h => h, fun _ j h1 h2 => by omega⟩)
  | succ d ih =>
    intro o x ho k
    have ho20 : o < 20 := by omega
    refine br_f (nI_ge (b := 20) ho20 (by decide)) ?_
    have hin : vp_in (nI o) 20 := vp_in_nI ho20 (by decide)
    have hc : (nI o).toNatClampNeg = o := nI_clamp (by omega)
    obtain ⟨hk, ha, hbb⟩ := hG.1 o ho20
    have hbd := hb o ho20
    by_cases hx : bt x o = true
    · refine br_t ((eh_t1 x (by omega)).mpr hx) ⟨hin, ?_⟩
      rw [hc, ha]
      refine eh_ybit hbd.2.1 (fun a sa => ⟨hin, ?_⟩)
      rw [hbb]
      refine eh_ybit hbd.2.2 (fun b sb => ⟨hin, ?_⟩)
      rw [hk]
      have hK : K o = 0 ∨ K o = 1 ∨ K o = 2 := by omega
      rcases hK with e | e | e
      · refine br_t (by rw [e]; exact nI_0) (nm_e (nm_e (nm_r (nI_1 o) (ih (o + 1) _ (by omega) (fun x' g => k x' ?_)))))
        refine eh_pa_or (eh_set_or sa sb) ?_ hx ?_ ?_ g
        · intro i hi
          rcases hi with hi | hi <;> omega
        · intro S hS _ i hi
          rcases hi with hi | hi
          · exact hS.1 i e hi
          · exact hS.2.1 i (by omega) hi
        · intro h
          refine ⟨fun a _ ea => h a (Or.inl ea), fun b _ eb => h b (Or.inr eb), fun a b e2 => by omega⟩
      · refine br_f (by rw [e]; decide) ⟨hin, br_t (by rw [e]; rfl) (nm_e (nm_r (nI_1 o) (ih (o + 1) _ (by omega) (fun x' g => k x' ?_))))⟩
        refine eh_pa_or sb ?_ hx ?_ ?_ g
        · intro i hi
          omega
        · intro S hS _ i hi
          exact hS.2.1 i (by omega) hi
        · intro h
          refine ⟨fun a e2 => by omega, fun b _ eb => h b eb, fun a b e2 => by omega⟩
      · refine br_f (by rw [e]; decide) ⟨hin, br_f (by rw [e]; decide) ?_⟩
        have hz := eh_set_z (eh_set_and sa (eh_set_bt x))
        by_cases hax : (a &&& x) = 0
        · refine br_t hax (nm_e (nm_r (nI_1 o) (ih (o + 1) _ (by omega) (fun x' g => k x' ?_))))
          refine eh_pa_or (T := fun _ => False) (eh_set_0 (fun _ h => h)) (fun i h => h.elim) hx (fun _ _ _ i h => h.elim) ?_ g
          intro _
          refine ⟨fun a e2 => by omega, fun b e2 => absurd e e2, fun a b _ ea ha => ?_⟩
          exact absurd ⟨ea, ha⟩ (hz.mp hax a (by omega))
        · refine br_f hax (nm_e (nm_r (nI_1 o) (ih (o + 1) _ (by omega) (fun x' g => k x' ?_))))
          have hex : ∃ a, A o = a + 1 ∧ bt x a = true := by
            refine Classical.byContradiction (fun hn => hax (hz.mpr (fun i _ hi => hn ⟨i, hi.1, hi.2⟩)))
          obtain ⟨a, ea, hxa⟩ := hex
          refine eh_pa_or sb ?_ hx ?_ ?_ g
          · intro i hi
            omega
          · intro S hS hxS i hi
            exact hS.2.2 a i e ea (hxS a hxa) hi
          · intro h
            refine ⟨fun a e2 => by omega, fun b e2 => absurd e e2, fun a b _ _ _ eb => h b eb⟩
    · refine br_f (fun z => hx ((eh_t1 x (by omega)).mp z)) (nm_r (nI_1 o) (ih (o + 1) _ (by omega) (fun x' g => k x' ?_)))
      exact eh_pa_s (y := x) (fun i h => h) (fun S _ h => h) (fun _ h => absurd h hx) g
theorem eh_y57 {post : Int32 → Prop} (hG : eh_YG K A B R Q ky aa bb ry qy) (hb : eh_bd K A B) : ∀ d p x, p + d = 20 → (∀ i, bt x i = true → i < 20) → (eh_cl K A B (fun i => bt x i = true) ∨ p + 1 ≤ eh_cn (fun i => bt x i) 20) → (∀ x', (∀ i, bt x i = true → bt x' i = true) → (∀ S : Nat → Prop, eh_cl K A B S → (∀ i, bt x i = true → S i) → ∀ i, bt x' i = true → S i) → eh_cl K A B (fun i => bt x' i = true) → post x') → wY_living_57 post wt he ky ey aa bb ry qy (d + 1) x (nI p) := by
  intro d
  induction d with
  | zero =>
    intro p x hp h20 hor k
    have e : p = 20 := by omega
    subst e
    refine br_t (show (20 : Int32) ≤ nI 20 from nI_le (Nat.le_refl 20) (by decide)) ?_
    have h1 := eh_cn_le (fun i => bt x i) 20
    exact k x (fun i h => h) (fun S _ h => h) (hor.resolve_right (by omega))
  | succ d ih =>
    intro p x hp h20 hor k
    refine br_f (nI_ge (b := 20) (by omega) (by decide)) ⟨21, eh_y65 hG hb 20 0 x rfl (fun x' hpa => ?_)⟩
    rw [nI_1]
    have h20' : ∀ i, bt x' i = true → i < 20 := hpa.2.1 (fun i => i < 20) (eh_cl20 hb) h20
    refine ih (p + 1) x' (by omega) h20' ?_ (fun z h1 h2 h3 => k z (fun i h => h1 i (hpa.1 i h)) (fun S hS h => h2 S hS (hpa.2.1 S hS h)) h3)
    by_cases e : x' = x
    · refine Or.inl ?_
      have hcl : eh_cl K A B (fun i => bt x i = true) := fun o ho => hpa.2.2 e o (by omega) (h20 o ho) ho
      rw [e]; exact hcl
    · have hnc : ¬ eh_cl K A B (fun i => bt x i = true) := fun hcl => e (eh_beq (hpa.2.1 _ hcl (fun i h => h)) hpa.1)
      have hcn := hor.resolve_left hnc
      have hex : ∃ i, bt x i = false ∧ bt x' i = true := by
        refine Classical.byContradiction (fun hn => e (eh_beq (fun i hi => ?_) hpa.1))
        cases hxi : bt x i
        · exact absurd ⟨i, hxi, hi⟩ hn
        · rfl
      obtain ⟨i, hi1, hi2⟩ := hex
      have hlt := eh_cn_lt (p := fun i => bt x i) (q := fun i => bt x' i) hi1 hi2 20 (h20' i hi2) (fun j _ h => hpa.1 j h)
      exact Or.inr (by omega)
theorem eh_y30 {post : Int32 → Prop} (hG : eh_YG K A B R Q ky aa bb ry qy) (hb : eh_bd K A B) (hR : ∀ r, r < 4 → R r ≤ 20) (hQ : ∀ o, o ∈ Q → o < 20) (hQl : Q.length ≤ 20) (k : ∀ x', eh_set x' (eh_lv K A B R Q) → post x') : ∀ d p x, p + d = Q.length → eh_set x (fun i => (∃ r, r < 4 ∧ R r = i + 1) ∨ ∃ j, j < p ∧ Q[j]? = some i) → wY_living_30 post (nI Q.length) he ky ey aa bb ry qy (d + 1) x (nI p) := by
  intro d
  induction d with
  | zero =>
    intro p x hp hs
    have e : p = Q.length := by omega
    subst e
    have h20 : ∀ i, bt x i = true → i < 20 := by
      intro i hi
      rcases (hs i (eh_bt32 hi)).mp hi with ⟨r, hr, er⟩ | ⟨j, _, ej⟩
      · have := hR r hr; omega
      · exact hQ i (List.mem_of_getElem? ej)
    refine br_t (nI_le (Nat.le_refl _) (by omega)) ⟨21, eh_y57 hG hb 20 0 x rfl h20 ?_ (fun x' h1 h2 h3 => k x' (fun i hi => eh_lv_is h3 ?_ ?_ i))⟩
    · by_cases hex : ∃ i, bt x i = true
      · obtain ⟨i, hi⟩ := hex
        refine Or.inr ?_
        have hlt := eh_cn_lt (p := fun _ => false) (q := fun i => bt x i) (k := i) rfl hi 20 (h20 i hi) (fun j _ h => absurd h (by decide))
        omega
      · exact Or.inl (fun o ho => absurd ⟨o, ho⟩ hex)
    · refine ⟨fun r o hr er => h1 o ((hs o ?_).mpr (Or.inl ⟨r, hr, er⟩)), fun o ho => h1 o ((hs o ?_).mpr (Or.inr ?_))⟩
      · have := hR r hr; omega
      · have := hQ o ho; omega
      · obtain ⟨j, ej⟩ := List.mem_iff_getElem?.mp ho
        exact ⟨j, eh_ltl ej, ej⟩
    · intro S hS hT
      refine h2 S hS (fun i hi => ?_)
      rcases (hs i (eh_bt32 hi)).mp hi with ⟨r, hr, er⟩ | ⟨j, _, ej⟩
      · exact hT.1 r i hr er
      · exact hT.2 i (List.mem_of_getElem? ej)
  | succ d ih =>
    intro p x hp hs
    have hpl : p < Q.length := by omega
    obtain ⟨o, eo⟩ := eh_gx hpl
    have hin : vp_in (nI p) 20 := vp_in_nI (by omega) (by decide)
    have hc : (nI p).toNatClampNeg = p := nI_clamp (by omega)
    have ho := hQ o (List.mem_of_getElem? eo)
    refine br_f (nI_ge hpl (by omega)) ⟨hin, ?_⟩
    rw [hc, hG.2.2 p o eo]
    refine nm_e (nm_r (nI_1 p) (ih (p + 1) _ (by omega) ?_))
    refine eh_set_c (eh_set_or hs (eh_set_one (by omega))) (fun i _ => ⟨fun h => ?_, fun h => ?_⟩)
    · rcases h with (h | ⟨j, hj, ej⟩) | h
      · exact Or.inl h
      · exact Or.inr ⟨j, by omega, ej⟩
      · exact Or.inr ⟨p, by omega, by rw [h]; exact eo⟩
    · rcases h with h | ⟨j, hj, ej⟩
      · exact Or.inl (Or.inl h)
      · by_cases e : j = p
        · rw [e, eo] at ej
          exact Or.inr (Option.some.inj ej).symm
        · exact Or.inl (Or.inr ⟨j, by omega, ej⟩)
theorem eh_y4 {post : Int32 → Prop} (hG : eh_YG K A B R Q ky aa bb ry qy) (hb : eh_bd K A B) (hR : ∀ r, r < 4 → R r ≤ 20) (hQ : ∀ o, o ∈ Q → o < 20) (hQl : Q.length ≤ 20) (k : ∀ x', eh_set x' (eh_lv K A B R Q) → post x') : ∀ d p x, p + d = 4 → eh_set x (fun i => ∃ r, r < p ∧ R r = i + 1) → wY_living_4 post (nI Q.length) he ky ey aa bb ry qy (d + 1) x (nI p) := by
  intro d
  induction d with
  | zero =>
    intro p x hp hs
    have e : p = 4 := by omega
    subst e
    refine br_t (show (4 : Int32) ≤ nI 4 from nI_le (Nat.le_refl 4) (by decide)) ⟨Q.length + 1, eh_y30 hG hb hR hQ hQl k Q.length 0 x (by omega) ?_⟩
    refine eh_set_c hs (fun i _ => ⟨Or.inl, fun h => ?_⟩)
    rcases h with h | ⟨j, hj, _⟩
    · exact h
    · omega
  | succ d ih =>
    intro p x hp hs
    have hp4 : p < 4 := by omega
    have hc : (nI p).toNatClampNeg = p := nI_clamp (by omega)
    refine br_f (nI_ge (b := 4) hp4 (by decide)) ⟨vp_in_nI hp4 (by decide), ?_⟩
    rw [hc, hG.2.1 p hp4]
    refine eh_ybit (hR p hp4) (fun b sb => nm_e (nm_r (nI_1 p) (ih (p + 1) _ (by omega) ?_)))
    refine eh_set_c (eh_set_or hs sb) (fun i _ => ⟨fun h => ?_, fun h => ?_⟩)
    · rcases h with ⟨r, hr, er⟩ | h
      · exact ⟨r, by omega, er⟩
      · exact ⟨p, by omega, h⟩
    · obtain ⟨r, hr, er⟩ := h
      by_cases e : r = p
      · rw [e] at er; exact Or.inr er
      · exact Or.inl ⟨r, by omega, er⟩
theorem eh_yliving {post : Int32 → Prop} (hG : eh_YG K A B R Q ky aa bb ry qy) (hb : eh_bd K A B) (hR : ∀ r, r < 4 → R r ≤ 20) (hQ : ∀ o, o ∈ Q → o < 20) (hQl : Q.length ≤ 20) (k : ∀ x', eh_set x' (eh_lv K A B R Q) → post x') : wpY_living post (nI Q.length, he, ky, ey, aa, bb, ry, qy) :=
  ⟨5, eh_y4 hG hb hR hQ hQl k 4 0 0 rfl (eh_set_0 (fun i h => by obtain ⟨r, hr, _⟩ := h; omega))⟩
end
end
section
/-! the component: cells, copying -/
/-- x is the place (in space s, whose objects are M) of target t (0: none) -/
def eh_EC (s : Nat) (M : List Nat) (t : Nat) (x : Int32) : Prop := (t = 0 ∧ x = -1) ∨ ∃ i o, M[i]? = some o ∧ t = o + 1 ∧ x = nI (s * 20 + i)
/-- the cell at place p holds object o -/
def eh_CE (s : Nat) (M : List Nat) (K A B : Nat → Nat) (p o : Nat) (nu ki fa fb : Nat → Int32) : Prop := nu p = nI o ∧ ki p = nI (K o) ∧ eh_EC s M (A o) (fa p) ∧ eh_EC s M (B o) (fb p)
/-- the space in use -/
def eh_XS (s : Nat) (M : List Nat) (K A B R : Nat → Nat) (Q : List Nat) (pl nu ki fa fb ro qu : Nat → Int32) : Prop :=
  (∀ i o, M[i]? = some o → pl o = nI (s * 20 + i) ∧ eh_CE s M K A B (s * 20 + i) o nu ki fa fb) ∧ (∀ r, r < 4 → eh_EC s M (R r) (ro r)) ∧ (∀ i o, Q[i]? = some o → qu i = nI o)
/-- the copies -/
def eh_XC (s : Nat) (M : List Nat) (K A B : Nat → Nat) (L : List Nat) (nu ki fa fb np : Nat → Int32) : Prop :=
  (∀ i o, L[i]? = some o → eh_CE s M K A B ((1 - s) * 20 + i) o nu ki fa fb) ∧ (∀ i o, M[i]? = some o → (o ∉ L ∧ np (s * 20 + i) = -1) ∨ ∃ j, L[j]? = some o ∧ np (s * 20 + i) = nI ((1 - s) * 20 + j)) ∧ L.Nodup ∧ (∀ o, o ∈ L → o ∈ M)
def eh_wM (s : Nat) (M : List Nat) : Prop := s ≤ 1 ∧ M.Nodup ∧ (∀ o, o ∈ M → o < 20)
theorem eh_wM_l {s : Nat} {M : List Nat} (h : eh_wM s M) : M.length ≤ 20 := eh_len h.2.1 h.2.2
theorem eh_EC_x {s : Nat} {M M' : List Nat} {t : Nat} {x : Int32} (h : eh_EC s M t x) (g : eh_ext M M') : eh_EC s M' t x := by
  rcases h with h | ⟨i, o, h1, h2, h3⟩
  · exact Or.inl h
  · exact Or.inr ⟨i, o, eh_ext_i g h1, h2, h3⟩
theorem eh_EC_b {s : Nat} {M : List Nat} {t : Nat} {x : Int32} (hw : eh_wM s M) (h : eh_EC s M t x) : vp_nar .byte x = x ∧ x.toInt8.toInt32 = x := by
  rcases h with ⟨_, h⟩ | ⟨i, o, h1, h2, h3⟩
  · rw [h]; exact ⟨eh_nbm, eh_m8⟩
  · have := eh_wM_l hw
    have := eh_ltl h1
    have := hw.1
    rw [h3]; exact ⟨eh_nb (by omega), eh_b7 _ (by omega)⟩
theorem eh_EC_m {s : Nat} {M : List Nat} {t o : Nat} {x : Int32} (h : eh_EC s M t x) (e : t = o + 1) : o ∈ M := by
  rcases h with ⟨h, _⟩ | ⟨i, o', h1, h2, h3⟩
  · omega
  · have : o' = o := by omega
    rw [← this]; exact List.mem_of_getElem? h1
theorem eh_XC_l {s : Nat} {M : List Nat} {K A B : Nat → Nat} {L : List Nat} {nu ki fa fb np : Nat → Int32} (hw : eh_wM s M) (h : eh_XC s M K A B L nu ki fa fb np) : L.length ≤ 20 :=
  eh_len h.2.2.1 (fun x hx => hw.2.2 x (h.2.2.2 x hx))
theorem eh_CE_u {s : Nat} {M : List Nat} {K A B : Nat → Nat} {p o q : Nat} {nu ki fa fb : Nat → Int32} {a b c d : Int32} (h : eh_CE s M K A B p o nu ki fa fb) (hq : p ≠ q) : eh_CE s M K A B p o (upd nu q a) (upd ki q b) (upd fa q c) (upd fb q d) := by
  unfold eh_CE
  rw [pk_un hq, pk_un hq, pk_un hq, pk_un hq]
  exact h
/-- one more copy keeps all -/
theorem eh_XC_new {s : Nat} {M : List Nat} {K A B R : Nat → Nat} {Q L : List Nat} {pl nu ki fa fb np ro qu : Nat → Int32} {i o : Nat} (hw : eh_wM s M) (hS : eh_XS s M K A B R Q pl nu ki fa fb ro qu) (hC : eh_XC s M K A B L nu ki fa fb np) (hi : M[i]? = some o) (ho : o ∉ L) :
    eh_XS s M K A B R Q pl (upd nu ((1 - s) * 20 + L.length) (nu (s * 20 + i))) (upd ki ((1 - s) * 20 + L.length) (ki (s * 20 + i))) (upd fa ((1 - s) * 20 + L.length) (fa (s * 20 + i))) (upd fb ((1 - s) * 20 + L.length) (fb (s * 20 + i))) ro qu ∧ eh_XC s M K A B (L ++ [o]) (upd nu ((1 - s) * 20 + L.length) (nu (s * 20 + i))) (upd ki ((1 - s) * 20 + L.length) (ki (s * 20 + i))) (upd fa ((1 - s) * 20 + L.length) (fa (s * 20 + i))) (upd fb ((1 - s) * 20 + L.length) (fb (s * 20 + i))) (upd np (s * 20 + i) (nI ((1 - s) * 20 + L.length))) := by
  have hoM : o ∈ M := List.mem_of_getElem? hi
  have hLl : L.length < 20 := eh_lenlt hC.2.2.1 (fun x hx => hw.2.2 x (hC.2.2.2 x hx)) (hw.2.2 o hoM) ho
  have hs := hw.1
  have hMl := eh_wM_l hw
  refine ⟨⟨fun j a hj => ⟨(hS.1 j a hj).1, eh_CE_u (hS.1 j a hj).2 ?_⟩, hS.2⟩, ?_, ?_, eh_ndc hC.2.2.1 ho, ?_⟩
  · have := eh_ltl hj
    show s * 20 + j ≠ (1 - s) * 20 + L.length
    omega
  · intro j a hj
    rcases eh_ap hj with h | ⟨h1, h2⟩
    · refine eh_CE_u (hC.1 j a h) ?_
      have := eh_ltl h
      show (1 - s) * 20 + j ≠ (1 - s) * 20 + L.length
      omega
    · subst h1 h2
      have h3 := (hS.1 i a hi).2
      unfold eh_CE
      rw [pk_us, pk_us, pk_us, pk_us]
      exact h3
  · intro j a hj
    by_cases e : j = i
    · rw [e] at hj
      have ea : a = o := Option.some.inj (hj.symm.trans hi)
      refine Or.inr ⟨L.length, by rw [ea]; exact eh_apr, ?_⟩
      rw [e]
      exact pk_us
    · have hn : s * 20 + j ≠ s * 20 + i := by omega
      rw [pk_un hn]
      rcases hC.2.1 j a hj with ⟨h1, h2⟩ | ⟨l, h1, h2⟩
      · refine Or.inl ⟨fun z => ?_, h2⟩
        rcases List.mem_append.mp z with z | z
        · exact h1 z
        · rw [List.mem_singleton] at z
          rw [z] at hj
          exact e (eh_inj hw.2.1 hj hi)
      · exact Or.inr ⟨l, eh_apl _ h1, h2⟩
  · intro a ha
    rcases List.mem_append.mp ha with z | z
    · exact hC.2.2.2 a z
    · rw [List.mem_singleton] at z
      rw [z]; exact hoM
section
variable {s : Nat} {M : List Nat} {K A B R : Nat → Nat} {Q : List Nat} {fp fw us sc qs : Int32} {pl nu ki fa fb np ro qu : Nat → Int32} {L : List Nat}
theorem eh_copy {post : SX → Prop} {t : Nat} {x : Int32} (hw : eh_wM s M) (hb : eh_bd K A B) (hS : eh_XS s M K A B R Q pl nu ki fa fb ro qu) (hC : eh_XC s M K A B L nu ki fa fb np) (ht : eh_EC s M t x) (k : ∀ nu' ki' fa' fb' np' : Nat → Int32, eh_XS s M K A B R Q pl nu' ki' fa' fb' ro qu → eh_XC s M K A B (eh_add L t) nu' ki' fa' fb' np' → post (fp, fw, nI s, us, nI (eh_add L t).length, sc, qs, pl, nu', ki', fa', fb', np', ro, qu)) : wpX_copy post (fp, fw, nI s, us, nI L.length, sc, qs, pl, nu, ki, fa, fb, np, ro, qu) x := by
  rcases ht with ⟨h1, h2⟩ | ⟨i, o, h1, h2, h3⟩
  · subst h1 h2
    exact br_t eh_m1lt (k _ _ _ _ _ hS hC)
  · subst h2 h3
    have hs := hw.1
    have hMl := eh_wM_l hw
    have hil := eh_ltl h1
    have hin : vp_in (nI (s * 20 + i)) 40 := vp_in_nI (by omega) (by decide)
    have hc : (nI (s * 20 + i)).toNatClampNeg = s * 20 + i := nI_clamp (by omega)
    refine br_f (nI_pos (by omega)) ⟨hin, ?_⟩
    rw [hc]
    rcases hC.2.1 i o h1 with ⟨g1, g2⟩ | ⟨j, g1, g2⟩
    · have hoM : o ∈ M := List.mem_of_getElem? h1
      have hLl : L.length < 20 := eh_lenlt hC.2.2.1 (fun y hy => hw.2.2 y (hC.2.2.2 y hy)) (hw.2.2 o hoM) g1
      have ea : eh_add L (o + 1) = L ++ [o] := if_neg g1
      have hn := eh_XC_new hw hS hC h1 g1
      have hqin : vp_in (nI ((1 - s) * 20 + L.length)) 40 := vp_in_nI (by omega) (by decide)
      have hqc : (nI ((1 - s) * 20 + L.length)).toNatClampNeg = (1 - s) * 20 + L.length := nI_clamp (by omega)
      have hcell := (hS.1 i o h1).2
      have ho20 := hw.2.2 o hoM
      have e1 : vp_nar .byte (nu (s * 20 + i)) = nu (s * 20 + i) := by rw [hcell.1]; exact eh_nb (by omega)
      refine br_t (by rw [g2]; exact eh_m1lt) (nm_r (eh_plt hs) (nm_r (nI_1 L.length) ⟨hin, nm_r (congrArg (upd np (s * 20 + i)) (eh_nb2 (by omega))) ⟨hin, hqin, ?_⟩⟩))
      have e2 : vp_nar .byte (ki (s * 20 + i)) = ki (s * 20 + i) := by rw [hcell.2.1]; have := hb o ho20; exact eh_nb (by omega)
      rw [hqc, e1, e2, (eh_EC_b hw hcell.2.2.1).1, (eh_EC_b hw hcell.2.2.2).1]
      refine nm_e ⟨hin, hqin, nm_e ⟨hin, hqin, nm_e ⟨hin, hqin, nm_e ?_⟩⟩⟩
      have k' := k (upd nu ((1 - s) * 20 + L.length) (nu (s * 20 + i))) (upd ki ((1 - s) * 20 + L.length) (ki (s * 20 + i))) (upd fa ((1 - s) * 20 + L.length) (fa (s * 20 + i))) (upd fb ((1 - s) * 20 + L.length) (fb (s * 20 + i))) (upd np (s * 20 + i) (nI ((1 - s) * 20 + L.length)))
      have el : (L ++ [o]).length = L.length + 1 := by rw [List.length_append]; rfl
      rw [ea, el] at k'
      exact k' hn.1 hn.2
    · have ea : eh_add L (o + 1) = L := if_pos (List.mem_of_getElem? g1)
      refine br_f (by rw [g2]; exact nI_pos (by have := eh_XC_l hw hC; have := eh_ltl g1; omega)) ?_
      have k' := k nu ki fa fb np
      rw [ea] at k'
      exact k' hS hC
end
end
section
/-! the component: lookAtPairs, spread -/
/-- L' goes on from L, inside every closed set with L -/
def eh_grow (K A B : Nat → Nat) (L L' : List Nat) : Prop := eh_ext L L' ∧ ∀ S : Nat → Prop, eh_cl K A B S → (∀ o, o ∈ L → S o) → ∀ o, o ∈ L' → S o
theorem eh_gr_r (K A B : Nat → Nat) (L : List Nat) : eh_grow K A B L L := ⟨eh_ext_r L, fun _ _ h => h⟩
theorem eh_gr_t {K A B : Nat → Nat} {L M N : List Nat} (h : eh_grow K A B L M) (g : eh_grow K A B M N) : eh_grow K A B L N :=
  ⟨eh_ext_t h.1 g.1, fun S hS hL => g.2 S hS (h.2 S hS hL)⟩
theorem eh_gr_a {K A B : Nat → Nat} {L : List Nat} {t : Nat} (h : ∀ S : Nat → Prop, eh_cl K A B S → (∀ o, o ∈ L → S o) → ∀ b, t = b + 1 → S b) : eh_grow K A B L (eh_add L t) := by
  refine ⟨eh_add_x L t, fun S hS hL o ho => ?_⟩
  rcases eh_add_o L ho with h1 | h1
  · exact hL o h1
  · exact h S hS hL o h1
/-- the first c of L have their strong targets in L -/
def eh_sg (K A B : Nat → Nat) (c : Nat) (L : List Nat) : Prop := ∀ j o, j < c → L[j]? = some o → (∀ a, K o = 0 → A o = a + 1 → a ∈ L) ∧ (∀ b, K o ≠ 2 → B o = b + 1 → b ∈ L)
theorem eh_sg_x {K A B : Nat → Nat} {c : Nat} {L L' : List Nat} (h : eh_sg K A B c L) (hc : c ≤ L.length) (g : eh_ext L L') : eh_sg K A B c L' := by
  intro j o hj ho
  obtain ⟨o', eo⟩ := eh_gx (show j < L.length by omega)
  have e : o' = o := Option.some.inj ((eh_ext_i g eo).symm.trans ho)
  rw [e] at eo
  exact ⟨fun a h1 h2 => eh_ext_m g ((h j o hj eo).1 a h1 h2), fun b h1 h2 => eh_ext_m g ((h j o hj eo).2 b h1 h2)⟩
theorem eh_sg_s {K A B : Nat → Nat} {c o : Nat} {L : List Nat} (h : eh_sg K A B c L) (e : L[c]? = some o) (h1 : ∀ a, K o = 0 → A o = a + 1 → a ∈ L) (h2 : ∀ b, K o ≠ 2 → B o = b + 1 → b ∈ L) : eh_sg K A B (c + 1) L := by
  intro j o' hj ho
  by_cases ej : j = c
  · rw [ej, e] at ho
    rw [← Option.some.inj ho]
    exact ⟨h1, h2⟩
  · exact h j o' (by omega) ho
section
variable {s : Nat} {M : List Nat} {K A B R : Nat → Nat} {Q : List Nat} {fp fw us qs : Int32} {pl ro qu : Nat → Int32}
theorem eh_isc {post : Int32 → Prop} {L : List Nat} {sc cp : Int32} {nu ki fa fb np : Nat → Int32} {t : Nat} {x : Int32} (hw : eh_wM s M) (hC : eh_XC s M K A B L nu ki fa fb np) (ht : eh_EC s M t x) (k0 : (∀ a, t = a + 1 → a ∉ L) → post 0) (k1 : ∀ a, t = a + 1 → a ∈ L → post 1) : wpX_isCopied post (fp, fw, nI s, us, cp, sc, qs, pl, nu, ki, fa, fb, np, ro, qu) x := by
  rcases ht with ⟨h1, h2⟩ | ⟨i, o, h1, h2, h3⟩
  · subst h1 h2
    exact br_t eh_m1lt (k0 (fun a e => by omega))
  · subst h2 h3
    have hs := hw.1
    have hMl := eh_wM_l hw
    have hil := eh_ltl h1
    have hin : vp_in (nI (s * 20 + i)) 40 := vp_in_nI (by omega) (by decide)
    have hc : (nI (s * 20 + i)).toNatClampNeg = s * 20 + i := nI_clamp (by omega)
    refine br_f (nI_pos (by omega)) ⟨hin, ?_⟩
    rw [hc]
    rcases hC.2.1 i o h1 with ⟨g1, g2⟩ | ⟨j, g1, g2⟩
    · exact br_t (by rw [g2]; exact eh_m1lt) (k0 (fun a e => (show o = a by omega) ▸ g1))
    · exact br_f (by rw [g2]; exact nI_pos (by have := eh_XC_l hw hC; have := eh_ltl g1; omega)) (k1 o rfl (List.mem_of_getElem? g1))
theorem eh_lap {post : SX → Prop} {c : Nat} (hw : eh_wM s M) (hb : eh_bd K A B) : ∀ (d i : Nat) (L : List Nat) (nu ki fa fb np : Nat → Int32), i + d = c → c ≤ L.length → eh_XS s M K A B R Q pl nu ki fa fb ro qu → eh_XC s M K A B L nu ki fa fb np → (∀ (L' : List Nat) (nu' ki' fa' fb' np' : Nat → Int32), eh_XS s M K A B R Q pl nu' ki' fa' fb' ro qu → eh_XC s M K A B L' nu' ki' fa' fb' np' → eh_grow K A B L L' → (L' = L → ∀ j o, i ≤ j → j < c → L[j]? = some o → ∀ a b, K o = 2 → A o = a + 1 → a ∈ L → B o = b + 1 → b ∈ L) → post (fp, fw, nI s, us, nI L'.length, nI c, qs, pl, nu', ki', fa', fb', np', ro, qu)) → wX_lookAtPairs_2 post (d + 1) (nI i) fp fw (nI s) us (nI L.length) (nI c) qs pl nu ki fa fb np ro qu := by
  intro d
  induction d with
  | zero =>
    intro i L nu ki fa fb np hi hcl hS hC k
    have e : i = c := by omega
    subst e
    have hl := eh_XC_l hw hC
    exact br_t (nI_le (Nat.le_refl _) (by omega)) (k L nu ki fa fb np hS hC (eh_gr_r K A B L) (fun _ j o h1 h2 => by omega))
  | succ d ih =>
    intro i L nu ki fa fb np hi hcl hS hC k
    have hl := eh_XC_l hw hC
    have hs := hw.1
    obtain ⟨o, eo⟩ := eh_gx (show i < L.length by omega)
    have cell := hC.1 i o eo
    have hin : vp_in (nI ((1 - s) * 20 + i)) 40 := vp_in_nI (by omega) (by decide)
    have hc : (nI ((1 - s) * 20 + i)).toNatClampNeg = (1 - s) * 20 + i := nI_clamp (by omega)
    refine br_f (nI_ge (by omega) (by omega)) (nm_r (eh_plt hs) ⟨hin, ?_⟩)
    rw [hc, cell.2.1]
    by_cases e : K o = 2
    · refine br_t (by rw [e]; rfl) ⟨hin, eh_isc hw hC cell.2.2.1 (fun hn => ?_) (fun a ea ha => ?_)⟩
      · refine br_t rfl (nm_r (nI_1 i) (ih (i + 1) L nu ki fa fb np (by omega) hcl hS hC (fun L' nu' ki' fa' fb' np' hS' hC' hg hq => k L' nu' ki' fa' fb' np' hS' hC' hg (fun eq j o' h1 h2 h3 a b hk ea hab eb => ?_))))
        by_cases ej : j = i
        · rw [ej, eo] at h3
          rw [← Option.some.inj h3] at ea
          exact absurd hab (hn a ea)
        · exact hq eq j o' (by omega) h2 h3 a b hk ea hab eb
      · refine br_f (by decide) ⟨hin, eh_copy hw hb hS hC cell.2.2.2 (fun nu1 ki1 fa1 fb1 np1 hS1 hC1 => ?_)⟩
        have hx := eh_add_x L (B o)
        have hg1 : eh_grow K A B L (eh_add L (B o)) := eh_gr_a (fun S hScl hL b eb => (hScl o (hL o (List.mem_of_getElem? eo))).2.2 a b e ea (hL a ha) eb)
        refine nm_r (nI_1 i) (ih (i + 1) (eh_add L (B o)) nu1 ki1 fa1 fb1 np1 (by omega) (Nat.le_trans hcl (eh_ext_l hx)) hS1 hC1 (fun L' nu' ki' fa' fb' np' hS' hC' hg hq => k L' nu' ki' fa' fb' np' hS' hC' (eh_gr_t hg1 hg) (fun eq j o' h1 h2 h3 a b hk ea hab eb => ?_)))
        obtain ⟨e1, e2⟩ := eh_ext_b hx hg.1 eq
        by_cases ej : j = i
        · rw [ej, eo] at h3
          rw [← Option.some.inj h3] at eb
          have := eh_add_i L eb
          rw [e1] at this
          exact this
        · have := hq e2 j o' (by omega) h2 (by rw [e1]; exact h3) a b hk ea (by rw [e1]; exact hab) eb
          rw [e1] at this
          exact this
    · refine br_f (fun z => e ((nI_eq (b := 2) (by have := hb o (hw.2.2 o (hC.2.2.2 o (List.mem_of_getElem? eo))); omega) (by decide)).mp z)) (nm_r (nI_1 i) (ih (i + 1) L nu ki fa fb np (by omega) hcl hS hC (fun L' nu' ki' fa' fb' np' hS' hC' hg hq => k L' nu' ki' fa' fb' np' hS' hC' hg (fun eq j o' h1 h2 h3 a b hk ea hab eb => ?_))))
      by_cases ej : j = i
      · rw [ej, eo] at h3
        rw [← Option.some.inj h3] at hk
        exact absurd hk e
      · exact hq eq j o' (by omega) h2 h3 a b hk ea hab eb
theorem eh_s78 {post : SX → Prop} {J4 : Int32 → Int32 → Int32 → Int32 → Int32 → Int32 → Int32 → Int32 → Int32 → (Nat → Int32) → (Nat → Int32) → (Nat → Int32) → (Nat → Int32) → (Nat → Int32) → (Nat → Int32) → (Nat → Int32) → (Nat → Int32) → Prop} {J23 : Int32 → Int32 → Int32 → Int32 → Int32 → Int32 → Int32 → (Nat → Int32) → (Nat → Int32) → (Nat → Int32) → (Nat → Int32) → (Nat → Int32) → (Nat → Int32) → (Nat → Int32) → (Nat → Int32) → Prop} {x1 x2 sc : Int32} {L : List Nat} {nu ki fa fb np : Nat → Int32} {i o : Nat} (hw : eh_wM s M) (hb : eh_bd K A B) (hS : eh_XS s M K A B R Q pl nu ki fa fb ro qu) (hC : eh_XC s M K A B L nu ki fa fb np) (eo : L[i]? = some o) (k2 : K o = 2 → J23 fp fw (nI s) us (nI L.length) sc qs pl nu ki fa fb np ro qu) (k1 : K o ≠ 2 → ∀ nu' ki' fa' fb' np' : Nat → Int32, eh_XS s M K A B R Q pl nu' ki' fa' fb' ro qu → eh_XC s M K A B (eh_add L (B o)) nu' ki' fa' fb' np' → J23 fp fw (nI s) us (nI (eh_add L (B o)).length) sc qs pl nu' ki' fa' fb' np' ro qu) : wX_spread_78 post J4 J23 x1 x2 (nI ((1 - s) * 20 + i)) fp fw (nI s) us (nI L.length) sc qs pl nu ki fa fb np ro qu := by
  have hl := eh_XC_l hw hC
  have hs := hw.1
  have hil := eh_ltl eo
  have cell := hC.1 i o eo
  have hin : vp_in (nI ((1 - s) * 20 + i)) 40 := vp_in_nI (by omega) (by decide)
  have hc : (nI ((1 - s) * 20 + i)).toNatClampNeg = (1 - s) * 20 + i := nI_clamp (by omega)
  unfold wX_spread_78
  refine ⟨hin, ?_⟩
  rw [hc, cell.2.1]
  by_cases e : K o = 2
  · exact br_t (by rw [e]; rfl) (k2 e)
  · exact br_f (fun z => e ((nI_eq (b := 2) (by have := hb o (hw.2.2 o (hC.2.2.2 o (List.mem_of_getElem? eo))); omega) (by decide)).mp z)) ⟨hin, eh_copy hw hb hS hC cell.2.2.2 (fun nu1 ki1 fa1 fb1 np1 hS1 hC1 => k1 e nu1 ki1 fa1 fb1 np1 hS1 hC1)⟩
theorem eh_s23 {post : SX → Prop} {J4 : Int32 → Int32 → Int32 → Int32 → Int32 → Int32 → Int32 → Int32 → Int32 → (Nat → Int32) → (Nat → Int32) → (Nat → Int32) → (Nat → Int32) → (Nat → Int32) → (Nat → Int32) → (Nat → Int32) → (Nat → Int32) → Prop} {x1 x2 : Int32} (hw : eh_wM s M) (hb : eh_bd K A B) : ∀ (m c : Nat) (L : List Nat) (nu ki fa fb np : Nat → Int32), c ≤ L.length → 21 ≤ m + c → eh_sg K A B c L → eh_XS s M K A B R Q pl nu ki fa fb ro qu → eh_XC s M K A B L nu ki fa fb np → (∀ (c' : Nat) (L' : List Nat) (nu' ki' fa' fb' np' : Nat → Int32), eh_XS s M K A B R Q pl nu' ki' fa' fb' ro qu → eh_XC s M K A B L' nu' ki' fa' fb' np' → eh_grow K A B L L' → eh_sg K A B c' L' → c' ≤ L'.length → (L' = L → eh_cl K A B (fun o => o ∈ L')) → J4 x1 (x2 + 1) fp fw (nI s) us (nI L'.length) (nI c') qs pl nu' ki' fa' fb' np' ro qu) → wX_spread_23 post J4 x1 x2 m fp fw (nI s) us (nI L.length) (nI c) qs pl nu ki fa fb np ro qu := by
  intro m
  induction m with
  | zero =>
    intro c L nu ki fa fb np hcl hm hsg hS hC k
    have hl := eh_XC_l hw hC
    omega
  | succ m ih =>
    intro c L nu ki fa fb np hcl hm hsg hS hC k
    have hl := eh_XC_l hw hC
    have hs := hw.1
    by_cases hlc : L.length ≤ c
    · have ec : c = L.length := by omega
      refine br_t (nI_le hlc (by omega)) ⟨c + 1, eh_lap hw hb c 0 L nu ki fa fb np (by omega) hcl hS hC (fun L' nu' ki' fa' fb' np' hS' hC' hg hq => nm_e (k c L' nu' ki' fa' fb' np' hS' hC' hg (eh_sg_x hsg hcl hg.1) (Nat.le_trans hcl (eh_ext_l hg.1)) (fun eq => ?_)))⟩
      have hq' := hq eq
      subst eq
      intro o ho
      obtain ⟨j, ej⟩ := List.mem_iff_getElem?.mp ho
      have hj : j < c := by rw [ec]; exact eh_ltl ej
      exact ⟨(hsg j o hj ej).1, (hsg j o hj ej).2, hq' j o (Nat.zero_le j) hj ej⟩
    · obtain ⟨o, eo⟩ := eh_gx (show c < L.length by omega)
      have hoL := List.mem_of_getElem? eo
      have cell := hC.1 c o eo
      have hin : vp_in (nI ((1 - s) * 20 + c)) 40 := vp_in_nI (by omega) (by decide)
      have hc : (nI ((1 - s) * 20 + c)).toNatClampNeg = (1 - s) * 20 + c := nI_clamp (by omega)
      refine br_f (nI_ge (by omega) (by omega)) (nm_r (eh_plt hs) (nm_r (nI_1 c) ⟨hin, ?_⟩))
      rw [hc, cell.2.1]
      by_cases e : K o = 0
      · refine br_t (by rw [e]; exact nI_0) ⟨hin, eh_copy hw hb hS hC cell.2.2.1 (fun nu1 ki1 fa1 fb1 np1 hS1 hC1 => ?_)⟩
        have hx1 := eh_add_x L (A o)
        have hx2 := eh_add_x (eh_add L (A o)) (B o)
        have hg1 : eh_grow K A B L (eh_add L (A o)) := eh_gr_a (fun S hScl hL b eb => (hScl o (hL o hoL)).1 b e eb)
        have hg2 : eh_grow K A B (eh_add L (A o)) (eh_add (eh_add L (A o)) (B o)) := eh_gr_a (fun S hScl hL b eb => (hScl o (hL o (eh_ext_m hx1 hoL))).2.1 b (by omega) eb)
        refine eh_s78 hw hb hS1 hC1 (eh_ext_i hx1 eo) (fun e2 => by omega) (fun _ nu2 ki2 fa2 fb2 np2 hS2 hC2 => ?_)
        refine ih (c + 1) _ nu2 ki2 fa2 fb2 np2 (Nat.le_trans (by omega) (eh_ext_l (eh_ext_t hx1 hx2))) (by omega) ?_ hS2 hC2 (fun c' L' nu' ki' fa' fb' np' hS' hC' hg hsg' hc' hcl' => k c' L' nu' ki' fa' fb' np' hS' hC' (eh_gr_t (eh_gr_t hg1 hg2) hg) hsg' hc' (fun eq => hcl' (eh_ext_b (eh_ext_t hx1 hx2) hg.1 eq).2))
        refine eh_sg_s (eh_sg_x hsg hcl (eh_ext_t hx1 hx2)) (eh_ext_i (eh_ext_t hx1 hx2) eo) (fun a _ ea => eh_ext_m hx2 (eh_add_i L ea)) (fun b _ eb => eh_add_i _ eb)
      · refine br_f (fun z => e ((nI_eq (b := 0) (by have := hb o (hw.2.2 o (hC.2.2.2 o hoL)); omega) (by decide)).mp z)) ?_
        have hx2 := eh_add_x L (B o)
        refine eh_s78 hw hb hS hC eo (fun e2 => ?_) (fun e2 nu2 ki2 fa2 fb2 np2 hS2 hC2 => ?_)
        · refine ih (c + 1) L nu ki fa fb np (by omega) (by omega) ?_ hS hC k
          exact eh_sg_s hsg eo (fun a e3 => absurd e3 e) (fun b e3 => absurd e2 e3)
        · have hg2 : eh_grow K A B L (eh_add L (B o)) := eh_gr_a (fun S hScl hL b eb => (hScl o (hL o hoL)).2.1 b e2 eb)
          refine ih (c + 1) _ nu2 ki2 fa2 fb2 np2 (Nat.le_trans (by omega) (eh_ext_l hx2)) (by omega) ?_ hS2 hC2 (fun c' L' nu' ki' fa' fb' np' hS' hC' hg hsg' hc' hcl' => k c' L' nu' ki' fa' fb' np' hS' hC' (eh_gr_t hg2 hg) hsg' hc' (fun eq => hcl' (eh_ext_b hx2 hg.1 eq).2))
          exact eh_sg_s (eh_sg_x hsg hcl hx2) (eh_ext_i hx2 eo) (fun a e3 => absurd e3 e) (fun b _ eb => eh_add_i _ eb)
theorem eh_s4 {post : SX → Prop} (hw : eh_wM s M) (hb : eh_bd K A B) : ∀ (m r c : Nat) (x1 : Int32) (L : List Nat) (nu ki fa fb np : Nat → Int32), r ≤ 21 → 22 ≤ m + r → ((r ≤ L.length ∧ x1 ≠ nI L.length) ∨ (x1 = nI L.length ∧ eh_cl K A B (fun o => o ∈ L))) → c ≤ L.length → eh_sg K A B c L → eh_XS s M K A B R Q pl nu ki fa fb ro qu → eh_XC s M K A B L nu ki fa fb np → (∀ (c' : Nat) (L' : List Nat) (nu' ki' fa' fb' np' : Nat → Int32), eh_XS s M K A B R Q pl nu' ki' fa' fb' ro qu → eh_XC s M K A B L' nu' ki' fa' fb' np' → eh_grow K A B L L' → c' ≤ L'.length → eh_cl K A B (fun o => o ∈ L') → post (fp, fw, nI s, us, nI L'.length, nI c', qs, pl, nu', ki', fa', fb', np', ro, qu)) → wX_spread_4 post m x1 (nI r) fp fw (nI s) us (nI L.length) (nI c) qs pl nu ki fa fb np ro qu := by
  intro m
  induction m with
  | zero => intro r c x1 L nu ki fa fb np hr hm; omega
  | succ m ih =>
    intro r c x1 L nu ki fa fb np hr hm hor hcl hsg hS hC k
    have hl := eh_XC_l hw hC
    rcases hor with ⟨hrl, hne⟩ | ⟨hx, hcl2⟩
    · refine br_f (show ¬ nI 20 < nI r from nI_nlt (by omega) (by decide)) (br_f hne ⟨21, eh_s23 hw hb 21 c L nu ki fa fb np hcl (by omega) hsg hS hC (fun c' L' nu' ki' fa' fb' np' hS' hC' hg hsg' hc' hcl' => ?_)⟩)
      rw [nI_1]
      refine ih (r + 1) c' _ L' nu' ki' fa' fb' np' (by omega) (by omega) ?_ hc' hsg' hS' hC' (fun c2 L2 nu2 ki2 fa2 fb2 np2 hS2 hC2 hg2 => k c2 L2 nu2 ki2 fa2 fb2 np2 hS2 hC2 (eh_gr_t hg hg2))
      have hl' := eh_XC_l hw hC'
      have hle := eh_ext_l hg.1
      by_cases e : L'.length = L.length
      · exact Or.inr ⟨by rw [e], hcl' (eh_ext_e hg.1 (by omega))⟩
      · exact Or.inl ⟨by omega, fun z => e ((nI_eq (by omega) (by omega)).mp z).symm⟩
    · have hp := k c L nu ki fa fb np hS hC (eh_gr_r K A B L) hcl hcl2
      exact br_c (fun _ => hp) (fun _ => br_t hx hp)
theorem eh_spread {post : SX → Prop} {c : Nat} {L : List Nat} {nu ki fa fb np : Nat → Int32} (hw : eh_wM s M) (hb : eh_bd K A B) (hcl : c ≤ L.length) (hsg : eh_sg K A B c L) (hS : eh_XS s M K A B R Q pl nu ki fa fb ro qu) (hC : eh_XC s M K A B L nu ki fa fb np) (k : ∀ (c' : Nat) (L' : List Nat) (nu' ki' fa' fb' np' : Nat → Int32), eh_XS s M K A B R Q pl nu' ki' fa' fb' ro qu → eh_XC s M K A B L' nu' ki' fa' fb' np' → eh_grow K A B L L' → c' ≤ L'.length → eh_cl K A B (fun o => o ∈ L') → post (fp, fw, nI s, us, nI L'.length, nI c', qs, pl, nu', ki', fa', fb', np', ro, qu)) : wpX_spread post (fp, fw, nI s, us, nI L.length, nI c, qs, pl, nu, ki, fa, fb, np, ro, qu) :=
  ⟨22, eh_s4 hw hb 22 0 c (-1) L nu ki fa fb np (by omega) (by omega) (Or.inl ⟨Nat.zero_le _, eh_m1ne (by have := eh_XC_l hw hC; omega)⟩) hcl hsg hS hC k⟩
end
end
section
/-! the component: copyLiving, living -/
/-- what the pure data keep -/
def eh_wf (s : Nat) (M : List Nat) (K A B R : Nat → Nat) (Q : List Nat) : Prop := eh_wM s M ∧ eh_bd K A B ∧ (∀ r, r < 4 → R r ≤ 20) ∧ Q.Nodup ∧ (∀ o, o ∈ Q → o ∈ M)
theorem eh_wf_Q {s : Nat} {M : List Nat} {K A B R : Nat → Nat} {Q : List Nat} (h : eh_wf s M K A B R Q) : (∀ o, o ∈ Q → o < 20) ∧ Q.length ≤ 20 :=
  have h1 : ∀ o, o ∈ Q → o < 20 := fun o ho => h.1.2.2 o (h.2.2.2.2 o ho)
  ⟨h1, eh_len h.2.2.2.1 h1⟩
theorem ek_if {c d A B : Prop} (e : c ↔ d) (f : d → A) (g : ¬ d → B) : (c → A) ∧ (¬ c → B) := ⟨fun h => f (e.mp h), fun h => g (fun z => h (e.mpr z))⟩
section
variable {s : Nat} {M : List Nat} {K A B R : Nat → Nat} {Q : List Nat} {fp fw us qs cp sc : Int32} {pl nu ki fa fb np ro qu : Nat → Int32} {L : List Nat}
theorem eh_EC_p (hS : eh_XS s M K A B R Q pl nu ki fa fb ro qu) {o : Nat} (ho : o ∈ M) : eh_EC s M (o + 1) (pl o) := by
  obtain ⟨i, ei⟩ := List.mem_iff_getElem?.mp ho
  exact Or.inr ⟨i, o, ei, rfl, (hS.1 i o ei).1⟩
theorem eh_has {post : Int32 → Prop} {sp : Int32} {v : Int32} (hfp : eh_set fp (fun i => i ∈ M)) (hM : ∀ o, o ∈ M → o < 20) (k0 : (∀ o, o ∈ M → v ≠ nI o) → post 0) (k1 : ∀ o, o ∈ M → v = nI o → post 1) : wpX_has post (fp, fw, sp, us, cp, sc, qs, pl, nu, ki, fa, fb, np, ro, qu) v := by
  rcases pk_ix v (n := 20) (by decide) with h | h | ⟨j, hj, e⟩
  · refine br_t h (k0 (fun o ho e => ?_))
    have := hM o ho
    rw [e] at h
    exact nI_pos (by omega) h
  · have h0 : ¬ v < 0 := fun z => absurd (Int32.lt_of_le_of_lt h z) (by decide)
    refine br_f h0 (br_t h (k0 (fun o ho e => ?_)))
    have := hM o ho
    rw [e] at h
    exact nI_ge (by omega) (by decide) h
  · subst e
    refine br_f (nI_pos (by omega)) (br_f (nI_ge (b := 20) hj (by decide)) (ek_if (eh_set_t0 hfp (by omega)) (fun h => k0 (fun o ho e => ?_)) (fun h => k1 j (Classical.not_not.mp h) rfl)))
    have := hM o ho
    have e2 : j = o := (nI_eq (by omega) (by omega)).mp e
    rw [e2] at h
    exact h ho
theorem eh_c56 {post : SX → Prop} (hw : eh_wM s M) (hb : eh_bd K A B) (hQM : ∀ o, o ∈ Q → o ∈ M) (hQl : Q.length ≤ 20) : ∀ (d i c : Nat) (L : List Nat) (nu ki fa fb np : Nat → Int32), i + d = Q.length → c ≤ L.length → eh_sg K A B c L → eh_XS s M K A B R Q pl nu ki fa fb ro qu → eh_XC s M K A B L nu ki fa fb np → (∀ (c' : Nat) (L' : List Nat) (nu' ki' fa' fb' np' : Nat → Int32), eh_XS s M K A B R Q pl nu' ki' fa' fb' ro qu → eh_XC s M K A B L' nu' ki' fa' fb' np' → eh_ext L L' → (∀ S : Nat → Prop, eh_cl K A B S → (∀ o, o ∈ L → S o) → (∀ o, o ∈ Q → S o) → ∀ o, o ∈ L' → S o) → (∀ j o, i ≤ j → Q[j]? = some o → o ∈ L') → c' ≤ L'.length → eh_cl K A B (fun o => o ∈ L') → post (fp, fw, nI s, us, nI L'.length, nI c', nI Q.length, pl, nu', ki', fa', fb', np', ro, qu)) → wX_copyLiving_56 post (d + 1) (nI i) fp fw (nI s) us (nI L.length) (nI c) (nI Q.length) pl nu ki fa fb np ro qu := by
  intro d
  induction d with
  | zero =>
    intro i c L nu ki fa fb np hi hcl hsg hS hC k
    have e : i = Q.length := by omega
    subst e
    refine br_t (nI_le (Nat.le_refl _) (by omega)) (eh_spread hw hb hcl hsg hS hC (fun c' L' nu' ki' fa' fb' np' hS' hC' hg hc' hcl' => k c' L' nu' ki' fa' fb' np' hS' hC' hg.1 (fun S hScl hL _ => hg.2 S hScl hL) (fun j o hj ej => ?_) hc' hcl'))
    have := eh_ltl ej
    omega
  | succ d ih =>
    intro i c L nu ki fa fb np hi hcl hsg hS hC k
    have hiq : i < Q.length := by omega
    obtain ⟨o, eo⟩ := eh_gx hiq
    have hoQ := List.mem_of_getElem? eo
    have hoM := hQM o hoQ
    have ho20 := hw.2.2 o hoM
    have hin : vp_in (nI i) 20 := vp_in_nI (by omega) (by decide)
    have hc : (nI i).toNatClampNeg = i := nI_clamp (by omega)
    have hinO : vp_in (nI o) 20 := vp_in_nI ho20 (by decide)
    have hcO : (nI o).toNatClampNeg = o := nI_clamp (by omega)
    refine br_f (nI_ge hiq (by omega)) ⟨hin, ?_⟩
    rw [hc, hS.2.2 i o eo, hcO]
    have hx := eh_add_x L (o + 1)
    refine ⟨hinO, eh_copy hw hb hS hC (eh_EC_p hS hoM) (fun nu1 ki1 fa1 fb1 np1 hS1 hC1 => nm_r (nI_1 i) (ih (i + 1) c _ nu1 ki1 fa1 fb1 np1 (by omega) (Nat.le_trans hcl (eh_ext_l hx)) (eh_sg_x hsg hcl hx) hS1 hC1 (fun c' L' nu' ki' fa' fb' np' hS' hC' hx' hbd hall hc' hcl' => k c' L' nu' ki' fa' fb' np' hS' hC' (eh_ext_t hx hx') (fun S hScl hL hSQ => hbd S hScl (fun a ha => ?_) hSQ) (fun j a hj ej => ?_) hc' hcl')))⟩
    · rcases eh_add_o L ha with h | h
      · exact hL a h
      · have : o = a := by omega
        rw [← this]; exact hSQ o hoQ
    · by_cases ej' : j = i
      · rw [ej', eo] at ej
        rw [← Option.some.inj ej]
        exact eh_ext_m hx' (eh_add_i L rfl)
      · exact hall j a (by omega) ej
theorem eh_r93 {post : SX → Prop} (hw : eh_wM s M) (hb : eh_bd K A B) (hQM : ∀ o, o ∈ Q → o ∈ M) (hQl : Q.length ≤ 20) : ∀ (d i c : Nat) (L : List Nat) (nu ki fa fb np : Nat → Int32), i + d = Q.length → c ≤ L.length → eh_sg K A B c L → eh_XS s M K A B R Q pl nu ki fa fb ro qu → eh_XC s M K A B L nu ki fa fb np → (∀ (c' : Nat) (L' : List Nat) (nu' ki' fa' fb' np' : Nat → Int32), eh_XS s M K A B R Q pl nu' ki' fa' fb' ro qu → eh_XC s M K A B L' nu' ki' fa' fb' np' → eh_ext L L' → (∀ S : Nat → Prop, eh_cl K A B S → (∀ o, o ∈ L → S o) → (∀ o, o ∈ Q → S o) → ∀ o, o ∈ L' → S o) → (∀ j o, i ≤ j → Q[j]? = some o → o ∈ L') → c' ≤ L'.length → eh_cl K A B (fun o => o ∈ L') → post (fp, fw, nI s, us, nI L'.length, nI c', nI Q.length, pl, nu', ki', fa', fb', np', ro, qu)) → wX_rescue_93 post (d + 1) (nI i) fp fw (nI s) us (nI L.length) (nI c) (nI Q.length) pl nu ki fa fb np ro qu := by
  intro d
  induction d with
  | zero =>
    intro i c L nu ki fa fb np hi hcl hsg hS hC k
    have e : i = Q.length := by omega
    subst e
    refine br_t (nI_le (Nat.le_refl _) (by omega)) (eh_spread hw hb hcl hsg hS hC (fun c' L' nu' ki' fa' fb' np' hS' hC' hg hc' hcl' => k c' L' nu' ki' fa' fb' np' hS' hC' hg.1 (fun S hScl hL _ => hg.2 S hScl hL) (fun j o hj ej => ?_) hc' hcl'))
    have := eh_ltl ej
    omega
  | succ d ih =>
    intro i c L nu ki fa fb np hi hcl hsg hS hC k
    have hiq : i < Q.length := by omega
    obtain ⟨o, eo⟩ := eh_gx hiq
    have hoQ := List.mem_of_getElem? eo
    have hoM := hQM o hoQ
    have ho20 := hw.2.2 o hoM
    have hin : vp_in (nI i) 20 := vp_in_nI (by omega) (by decide)
    have hc : (nI i).toNatClampNeg = i := nI_clamp (by omega)
    have hinO : vp_in (nI o) 20 := vp_in_nI ho20 (by decide)
    have hcO : (nI o).toNatClampNeg = o := nI_clamp (by omega)
    refine br_f (nI_ge hiq (by omega)) ⟨hin, ?_⟩
    rw [hc, hS.2.2 i o eo, hcO]
    have hx := eh_add_x L (o + 1)
    refine ⟨hinO, eh_copy hw hb hS hC (eh_EC_p hS hoM) (fun nu1 ki1 fa1 fb1 np1 hS1 hC1 => nm_r (nI_1 i) (ih (i + 1) c _ nu1 ki1 fa1 fb1 np1 (by omega) (Nat.le_trans hcl (eh_ext_l hx)) (eh_sg_x hsg hcl hx) hS1 hC1 (fun c' L' nu' ki' fa' fb' np' hS' hC' hx' hbd hall hc' hcl' => k c' L' nu' ki' fa' fb' np' hS' hC' (eh_ext_t hx hx') (fun S hScl hL hSQ => hbd S hScl (fun a ha => ?_) hSQ) (fun j a hj ej => ?_) hc' hcl')))⟩
    · rcases eh_add_o L ha with h | h
      · exact hL a h
      · have : o = a := by omega
        rw [← this]; exact hSQ o hoQ
    · by_cases ej' : j = i
      · rw [ej', eo] at ej
        rw [← Option.some.inj ej]
        exact eh_ext_m hx' (eh_add_i L rfl)
      · exact hall j a (by omega) ej
theorem eh_c33 {post : SX → Prop} (hf : eh_wf s M K A B R Q) : ∀ (d r : Nat) (L : List Nat) (nu ki fa fb np : Nat → Int32), r + d = 4 → eh_XS s M K A B R Q pl nu ki fa fb ro qu → eh_XC s M K A B L nu ki fa fb np → (∀ (c' : Nat) (L' : List Nat) (nu' ki' fa' fb' np' : Nat → Int32), eh_XS s M K A B R Q pl nu' ki' fa' fb' ro qu → eh_XC s M K A B L' nu' ki' fa' fb' np' → eh_ext L L' → (∀ S : Nat → Prop, eh_cl K A B S → (∀ o, o ∈ L → S o) → eh_st R Q S → ∀ o, o ∈ L' → S o) → (∀ q o, r ≤ q → q < 4 → R q = o + 1 → o ∈ L') → (∀ o, o ∈ Q → o ∈ L') → c' ≤ L'.length → eh_cl K A B (fun o => o ∈ L') → post (fp, fw, nI s, us, nI L'.length, nI c', nI Q.length, pl, nu', ki', fa', fb', np', ro, qu)) → wX_copyLiving_33 post (d + 1) (nI r) fp fw (nI s) us (nI L.length) 0 (nI Q.length) pl nu ki fa fb np ro qu := by
  intro d
  induction d with
  | zero =>
    intro r L nu ki fa fb np hr hS hC k
    have e : r = 4 := by omega
    subst e
    refine br_t (show (4 : Int32) ≤ nI 4 from nI_le (Nat.le_refl 4) (by decide)) ⟨Q.length + 1, eh_c56 hf.1 hf.2.1 hf.2.2.2.2 (eh_wf_Q hf).2 Q.length 0 0 L nu ki fa fb np (by omega) (Nat.zero_le _) (fun j o hj => by omega) hS hC (fun c' L' nu' ki' fa' fb' np' hS' hC' hx hbd hall hc' hcl' => k c' L' nu' ki' fa' fb' np' hS' hC' hx (fun S hScl hL hT => hbd S hScl hL hT.2) (fun q o h1 h2 => by omega) (fun o ho => ?_) hc' hcl')⟩
    obtain ⟨j, ej⟩ := List.mem_iff_getElem?.mp ho
    exact hall j o (Nat.zero_le j) ej
  | succ d ih =>
    intro r L nu ki fa fb np hr hS hC k
    have hr4 : r < 4 := by omega
    have hc : (nI r).toNatClampNeg = r := nI_clamp (by omega)
    refine br_f (nI_ge (b := 4) hr4 (by decide)) ⟨vp_in_nI hr4 (by decide), ?_⟩
    rw [hc]
    have hx := eh_add_x L (R r)
    refine eh_copy hf.1 hf.2.1 hS hC (hS.2.1 r hr4) (fun nu1 ki1 fa1 fb1 np1 hS1 hC1 => nm_r (nI_1 r) (ih (r + 1) _ nu1 ki1 fa1 fb1 np1 (by omega) hS1 hC1 (fun c' L' nu' ki' fa' fb' np' hS' hC' hx' hbd hall hallQ hc' hcl' => k c' L' nu' ki' fa' fb' np' hS' hC' (eh_ext_t hx hx') (fun S hScl hL hT => hbd S hScl (fun a ha => ?_) hT) (fun q a h1 h2 e => ?_) hallQ hc' hcl')))
    · rcases eh_add_o L ha with h | h
      · exact hL a h
      · exact hT.1 r a hr4 h
    · by_cases eq : q = r
      · rw [eq] at e
        exact eh_ext_m hx' (eh_add_i L e)
      · exact hall q a (by omega) h2 e
theorem eh_c2 {post : SX → Prop} (hf : eh_wf s M K A B R Q) (hS : eh_XS s M K A B R Q pl nu ki fa fb ro qu) (k : ∀ (c' : Nat) (L' : List Nat) (nu' ki' fa' fb' np' : Nat → Int32), eh_XS s M K A B R Q pl nu' ki' fa' fb' ro qu → eh_XC s M K A B L' nu' ki' fa' fb' np' → (∀ i, i ∈ L' ↔ eh_lv K A B R Q i) → c' ≤ L'.length → eh_cl K A B (fun o => o ∈ L') → post (fp, fw, nI s, us, nI L'.length, nI c', nI Q.length, pl, nu', ki', fa', fb', np', ro, qu)) : ∀ (d i : Nat) (np : Nat → Int32), i + d = 40 → (∀ j, j < i → np j = -1) → wX_copyLiving_2 post fp fw (nI s) us cp sc (nI Q.length) (d + 1) (nI i) pl nu ki fa fb np ro qu := by
  intro d
  induction d with
  | zero =>
    intro i np hi hn
    have e : i = 40 := by omega
    subst e
    refine br_t (show (40 : Int32) ≤ nI 40 from nI_le (Nat.le_refl 40) (by decide)) ⟨5, eh_c33 hf 4 0 [] nu ki fa fb np rfl hS ?_ (fun c' L' nu' ki' fa' fb' np' hS' hC' _ hbd hall hallQ hc' hcl' => k c' L' nu' ki' fa' fb' np' hS' hC' (eh_lv_is (T := fun o => o ∈ L') hcl' ⟨fun r o hr e => hall r o (Nat.zero_le r) hr e, hallQ⟩ (fun S hScl hT => hbd S hScl (fun o ho => absurd ho List.not_mem_nil) hT)) hc' hcl')⟩
    refine ⟨fun i o h => ?_, fun i o h => Or.inl ⟨List.not_mem_nil, hn _ ?_⟩, List.nodup_nil, fun o ho => absurd ho List.not_mem_nil⟩
    · exact absurd (List.mem_of_getElem? h) List.not_mem_nil
    · have := eh_ltl h
      have := eh_wM_l hf.1
      have := hf.1.1
      omega
  | succ d ih =>
    intro i np hi hn
    have hc : (nI i).toNatClampNeg = i := nI_clamp (by omega)
    refine br_f (nI_ge (b := 40) (by omega) (by decide)) ⟨vp_in_nI (by omega) (by decide), ?_⟩
    rw [hc, eh_nbm]
    refine nm_e (nm_r (nI_1 i) (ih (i + 1) _ (by omega) (fun j hj => ?_)))
    by_cases e : j = i
    · rw [e]; exact pk_us
    · rw [pk_un e]; exact hn j (by omega)
theorem eh_cplv {post : SX → Prop} (hf : eh_wf s M K A B R Q) (hS : eh_XS s M K A B R Q pl nu ki fa fb ro qu) (k : ∀ (c' : Nat) (L' : List Nat) (nu' ki' fa' fb' np' : Nat → Int32), eh_XS s M K A B R Q pl nu' ki' fa' fb' ro qu → eh_XC s M K A B L' nu' ki' fa' fb' np' → (∀ i, i ∈ L' ↔ eh_lv K A B R Q i) → c' ≤ L'.length → eh_cl K A B (fun o => o ∈ L') → post (fp, fw, nI s, us, nI L'.length, nI c', nI Q.length, pl, nu', ki', fa', fb', np', ro, qu)) : wpX_copyLiving post (fp, fw, nI s, us, cp, sc, nI Q.length, pl, nu, ki, fa, fb, np, ro, qu) :=
  ⟨41, eh_c2 hf hS k 40 0 np rfl (fun j hj => by omega)⟩
theorem eh_l8 {post : Int32 → SX → Prop} (hw : eh_wM s M) (hC : eh_XC s M K A B L nu ki fa fb np) (k : ∀ r, eh_set r (fun i => i ∈ L) → post r (fp, fw, nI s, us, nI L.length, sc, nI Q.length, pl, nu, ki, fa, fb, np, ro, qu)) : ∀ (d i : Nat) (x : Int32), i + d = L.length → eh_set x (fun a => ∃ j, j < i ∧ L[j]? = some a) → wX_living_8 post fp fw (nI s) us (nI L.length) sc (nI Q.length) pl nu ki fa fb np ro qu (d + 1) x (nI i) := by
  have hl := eh_XC_l hw hC
  have hs := hw.1
  intro d
  induction d with
  | zero =>
    intro i x hi hx
    have e : i = L.length := by omega
    subst e
    refine br_t (nI_le (Nat.le_refl _) (by omega)) (k x (eh_set_c hx (fun a _ => ⟨fun h => ?_, fun h => ?_⟩)))
    · obtain ⟨j, _, ej⟩ := h
      exact List.mem_of_getElem? ej
    · obtain ⟨j, ej⟩ := List.mem_iff_getElem?.mp h
      exact ⟨j, eh_ltl ej, ej⟩
  | succ d ih =>
    intro i x hi hx
    obtain ⟨o, eo⟩ := eh_gx (show i < L.length by omega)
    have ho20 := hw.2.2 o (hC.2.2.2 o (List.mem_of_getElem? eo))
    have hin : vp_in (nI ((1 - s) * 20 + i)) 40 := vp_in_nI (by omega) (by decide)
    have hc : (nI ((1 - s) * 20 + i)).toNatClampNeg = (1 - s) * 20 + i := nI_clamp (by omega)
    refine br_f (nI_ge (by omega) (by omega)) ?_
    rw [eh_plt hs, hc, (hC.1 i o eo).1]
    refine ⟨hin, nm_e (nm_r (nI_1 i) (ih (i + 1) _ (by omega) ?_))⟩
    refine eh_set_c (eh_set_or hx (eh_set_one (by omega))) (fun a _ => ⟨fun h => ?_, fun h => ?_⟩)
    · rcases h with ⟨j, hj, ej⟩ | h
      · exact ⟨j, by omega, ej⟩
      · exact ⟨i, by omega, by rw [h]; exact eo⟩
    · obtain ⟨j, hj, ej⟩ := h
      by_cases e : j = i
      · rw [e, eo] at ej
        exact Or.inr (Option.some.inj ej).symm
      · exact Or.inl ⟨j, by omega, ej⟩
theorem eh_xliving {post : Int32 → SX → Prop} (hf : eh_wf s M K A B R Q) (hS : eh_XS s M K A B R Q pl nu ki fa fb ro qu) (k : ∀ (r : Int32) (cp' sc' : Int32) (nu' ki' fa' fb' np' : Nat → Int32), eh_XS s M K A B R Q pl nu' ki' fa' fb' ro qu → eh_set r (eh_lv K A B R Q) → post r (fp, fw, nI s, us, cp', sc', nI Q.length, pl, nu', ki', fa', fb', np', ro, qu)) : wpX_living post (fp, fw, nI s, us, cp, sc, nI Q.length, pl, nu, ki, fa, fb, np, ro, qu) := by
  refine eh_cplv (post := fun u => _) hf hS (fun c' L' nu' ki' fa' fb' np' hS' hC' hlv hc' hcl' => ?_)
  refine ⟨L'.length + 1, eh_l8 hf.1 hC' (fun r hr => k r _ _ nu' ki' fa' fb' np' hS' (eh_set_c hr (fun i _ => hlv i))) L'.length 0 0 (by omega) (eh_set_0 (fun i h => ?_))⟩
  obtain ⟨j, hj, _⟩ := h
  omega
end
end
section
/-! rescue: the objects that end go to the queue -/
def eh_qn (M : List Nat) (E : Nat → Bool) (L Q : List Nat) : Nat → List Nat
  | 0 => Q
  | o + 1 => if o ∈ M ∧ E o = true ∧ o ∉ L then eh_qn M E L Q o ++ [o] else eh_qn M E L Q o
def eh_en (M : List Nat) (E : Nat → Bool) (L : List Nat) : Nat → Nat → Bool
  | 0 => E
  | o + 1 => if o ∈ M ∧ E o = true ∧ o ∉ L then (fun i => eh_en M E L o i && decide (i ≠ o)) else eh_en M E L o
theorem eh_en_ge {M : List Nat} {E : Nat → Bool} {L : List Nat} : ∀ o j, o ≤ j → eh_en M E L o j = E j := by
  intro o
  induction o with
  | zero => intro j _; rfl
  | succ o ih =>
    intro j hj
    show (if o ∈ M ∧ E o = true ∧ o ∉ L then (fun i => eh_en M E L o i && decide (i ≠ o)) else eh_en M E L o) j = E j
    by_cases h : o ∈ M ∧ E o = true ∧ o ∉ L
    · rw [if_pos h]
      show (eh_en M E L o j && decide (j ≠ o)) = E j
      rw [ih j (by omega), decide_eq_true (show j ≠ o by omega), Bool.and_true]
    · rw [if_neg h]
      exact ih j (by omega)
theorem eh_qn_p {M : List Nat} {E : Nat → Bool} {L Q : List Nat} (hQ : Q.Nodup) (hQM : ∀ a, a ∈ Q → a ∈ M) (hQL : ∀ a, a ∈ Q → a ∈ L) : ∀ o, (eh_qn M E L Q o).Nodup ∧ (∀ a, a ∈ eh_qn M E L Q o → a ∈ M) ∧ (∀ a, a ∈ eh_qn M E L Q o → a ∈ L ∨ a < o) ∧ eh_ext Q (eh_qn M E L Q o) := by
  intro o
  induction o with
  | zero => exact ⟨hQ, hQM, fun a ha => Or.inl (hQL a ha), eh_ext_r Q⟩
  | succ o ih =>
    obtain ⟨h1, h2, h3, h4⟩ := ih
    by_cases h : o ∈ M ∧ E o = true ∧ o ∉ L
    · have e : eh_qn M E L Q (o + 1) = eh_qn M E L Q o ++ [o] := if_pos h
      rw [e]
      have hno : o ∉ eh_qn M E L Q o := fun z => (h3 o z).elim h.2.2 (fun z2 => absurd z2 (Nat.lt_irrefl o))
      refine ⟨eh_ndc h1 hno, fun a ha => ?_, fun a ha => ?_, eh_ext_t h4 ⟨[o], rfl⟩⟩
      · rcases List.mem_append.mp ha with z | z
        · exact h2 a z
        · rw [List.mem_singleton] at z; rw [z]; exact h.1
      · rcases List.mem_append.mp ha with z | z
        · rcases h3 a z with z | z
          · exact Or.inl z
          · exact Or.inr (by omega)
        · rw [List.mem_singleton] at z; exact Or.inr (by omega)
    · have e : eh_qn M E L Q (o + 1) = eh_qn M E L Q o := if_neg h
      rw [e]
      refine ⟨h1, h2, fun a ha => ?_, h4⟩
      rcases h3 a ha with z | z
      · exact Or.inl z
      · exact Or.inr (by omega)
theorem eh_qput {Q : List Nat} {qu : Nat → Int32} {o : Nat} (h : ∀ i a, Q[i]? = some a → qu i = nI a) : ∀ i a, (Q ++ [o])[i]? = some a → upd qu Q.length (nI o) i = nI a := by
  intro i a hi
  rcases eh_ap hi with g | ⟨g1, g2⟩
  · have := eh_ltl g
    rw [pk_un (by omega)]
    exact h i a g
  · rw [g1, g2]
    exact pk_us
section
variable {s : Nat} {M : List Nat} {E : Nat → Bool} {K A B R : Nat → Nat} {Q : List Nat} {fp us sc : Int32} {pl nu ki fa fb np ro : Nat → Int32} {L : List Nat}
theorem eh_r2 {post : SX → Prop} (hw : eh_wM s M) (hQ : Q.Nodup) (hQM : ∀ a, a ∈ Q → a ∈ M) (hQL : ∀ a, a ∈ Q → a ∈ L) (hfp : eh_set fp (fun i => i ∈ M)) (hC : eh_XC s M K A B L nu ki fa fb np) (k : ∀ (fw' : Int32) (qu' : Nat → Int32), eh_set fw' (fun i => i ∈ M ∧ eh_en M E L 20 i = true) → eh_XS s M K A B R (eh_qn M E L Q 20) pl nu ki fa fb ro qu' → ∃ n, wX_rescue_93 post n 0 fp fw' (nI s) us (nI L.length) sc (nI (eh_qn M E L Q 20).length) pl nu ki fa fb np ro qu') : ∀ (d o : Nat) (fw : Int32) (qu : Nat → Int32), o + d = 20 → eh_set fw (fun i => i ∈ M ∧ eh_en M E L o i = true) → eh_XS s M K A B R (eh_qn M E L Q o) pl nu ki fa fb ro qu → wX_rescue_2 post fp (nI s) us (nI L.length) sc (d + 1) (nI o) fw (nI (eh_qn M E L Q o).length) pl nu ki fa fb np ro qu := by
  intro d
  induction d with
  | zero =>
    intro o fw qu ho hfw hS
    have e : o = 20 := by omega
    subst e
    exact br_t (show (20 : Int32) ≤ nI 20 from nI_le (Nat.le_refl 20) (by decide)) (k fw qu hfw hS)
  | succ d ih =>
    intro o fw qu ho hfw hS
    have ho20 : o < 20 := by omega
    have hin : vp_in (nI o) 20 := vp_in_nI ho20 (by decide)
    have hc : (nI o).toNatClampNeg = o := nI_clamp (by omega)
    have hEo : eh_en M E L o o = E o := eh_en_ge o o (Nat.le_refl o)
    have hno : ¬ (o ∈ M ∧ E o = true ∧ o ∉ L) → wX_rescue_2 post fp (nI s) us (nI L.length) sc (d + 1) (nI (o + 1)) fw (nI (eh_qn M E L Q o).length) pl nu ki fa fb np ro qu := by
      intro h
      have ih' := ih (o + 1) fw qu (by omega)
      have e1 : eh_qn M E L Q (o + 1) = eh_qn M E L Q o := if_neg h
      have e2 : eh_en M E L (o + 1) = eh_en M E L o := if_neg h
      rw [e1, e2] at ih'
      exact ih' hfw hS
    refine br_f (nI_ge (b := 20) ho20 (by decide)) (eh_has hfp hw.2.2 (fun h0 => ?_) (fun o' ho' e' => ?_))
    · exact br_t rfl (br_t rfl (nm_r (nI_1 o) (hno (fun z => h0 o z.1 rfl))))
    · have e2 : o = o' := (nI_eq (by omega) (by have := hw.2.2 o' ho'; omega)).mp e'
      rw [← e2] at ho'
      refine br_f (by decide) (ek_if (eh_set_t0 hfw (by omega)) (fun h => ?_) (fun h => ⟨hin, ?_⟩))
      · exact br_t rfl (nm_r (nI_1 o) (hno (fun z => h ⟨z.1, hEo.trans z.2.1⟩)))
      · have hE : E o = true := hEo.symm.trans (Classical.not_not.mp h).2
        rw [hc]
        refine eh_isc hw hC (eh_EC_p hS ho') (fun hn => ?_) (fun a ea ha => ?_)
        · have hcond : o ∈ M ∧ E o = true ∧ o ∉ L := ⟨ho', hE, hn o rfl⟩
          obtain ⟨p1, p2, p3, p4⟩ := eh_qn_p (E := E) hQ hQM hQL o
          have hlen : (eh_qn M E L Q o).length < 20 := eh_lenlt p1 (fun x hx => hw.2.2 x (p2 x hx)) ho20 (fun z => (p3 o z).elim hcond.2.2 (fun z2 => absurd z2 (Nat.lt_irrefl o)))
          have hqc : (nI (eh_qn M E L Q o).length).toNatClampNeg = (eh_qn M E L Q o).length := nI_clamp (by omega)
          have e1 : eh_qn M E L Q (o + 1) = eh_qn M E L Q o ++ [o] := if_pos hcond
          have e2 : eh_en M E L (o + 1) = (fun i => eh_en M E L o i && decide (i ≠ o)) := if_pos hcond
          have el : (eh_qn M E L Q o ++ [o]).length = (eh_qn M E L Q o).length + 1 := by rw [List.length_append]; rfl
          refine br_t rfl (br_f (by decide) ⟨vp_in_nI hlen (by decide), ?_⟩)
          rw [hqc, eh_nb2 (by omega)]
          refine nm_e (nm_r (nI_1 _) (nm_e (nm_r (nI_1 o) ?_)))
          have ih' := ih (o + 1) (fw &&& (((1 : Int32) <<< (nI o &&& 31)) ^^^ (-1))) (upd qu (eh_qn M E L Q o).length (nI o)) (by omega)
          rw [e1, e2, el] at ih'
          refine ih' ?_ ⟨hS.1, hS.2.1, eh_qput hS.2.2⟩
          refine eh_set_c (eh_set_and hfw (eh_set_not (eh_set_one (by omega)))) (fun i _ => ?_)
          show (i ∈ M ∧ eh_en M E L o i = true) ∧ ¬ i = o ↔ i ∈ M ∧ (eh_en M E L o i && decide (i ≠ o)) = true
          rw [Bool.and_eq_true, decide_eq_true_iff, and_assoc]
        · exact br_f (by decide) (br_t rfl (nm_r (nI_1 o) (hno (fun z => z.2.2 ((show a = o by omega) ▸ ha)))))
end
section
variable {M : List Nat} {E : Nat → Bool} {Q : List Nat} {he ky aa bb ry : Nat → Int32} {L : List Nat}
theorem eh_y7 {post : Int32 → SY → Prop} {x1 : Int32} (hM : ∀ o, o ∈ M → o < 20) (hQ : Q.Nodup) (hQM : ∀ a, a ∈ Q → a ∈ M) (hQL : ∀ a, a ∈ Q → a ∈ L) (hx : eh_set x1 (fun i => i ∈ L)) (hhe : ∀ o, o < 20 → (he o = 0 ↔ o ∉ M)) (k : ∀ ey' qy' : Nat → Int32, (∀ o, o < 20 → (ey' o = 0 ↔ eh_en M E L 20 o = false)) → (∀ i a, (eh_qn M E L Q 20)[i]? = some a → qy' i = nI a) → wpY_living (fun r => ∃ n : Nat, wY_clean_82 post x1 r (nI (eh_qn M E L Q 20).length) n 0 0 he ky ey' aa bb ry qy') (nI (eh_qn M E L Q 20).length, he, ky, ey', aa, bb, ry, qy')) : ∀ (d o : Nat) (ey qy : Nat → Int32), o + d = 20 → (∀ j, j < 20 → (ey j = 0 ↔ eh_en M E L o j = false)) → (∀ i a, (eh_qn M E L Q o)[i]? = some a → qy i = nI a) → wY_clean_7 post x1 (d + 1) (nI o) (nI (eh_qn M E L Q o).length) he ky ey aa bb ry qy := by
  intro d
  induction d with
  | zero =>
    intro o ey qy ho hey hqy
    have e : o = 20 := by omega
    subst e
    exact br_t (show (20 : Int32) ≤ nI 20 from nI_le (Nat.le_refl 20) (by decide)) (k ey qy hey hqy)
  | succ d ih =>
    intro o ey qy ho hey hqy
    have ho20 : o < 20 := by omega
    have hin : vp_in (nI o) 20 := vp_in_nI ho20 (by decide)
    have hc : (nI o).toNatClampNeg = o := nI_clamp (by omega)
    have hEo : eh_en M E L o o = E o := eh_en_ge o o (Nat.le_refl o)
    have hno : ¬ (o ∈ M ∧ E o = true ∧ o ∉ L) → wY_clean_7 post x1 (d + 1) (nI (o + 1)) (nI (eh_qn M E L Q o).length) he ky ey aa bb ry qy := by
      intro h
      have ih' := ih (o + 1) ey qy (by omega)
      have e1 : eh_qn M E L Q (o + 1) = eh_qn M E L Q o := if_neg h
      have e2 : eh_en M E L (o + 1) = eh_en M E L o := if_neg h
      rw [e1, e2] at ih'
      exact ih' hey hqy
    refine br_f (nI_ge (b := 20) ho20 (by decide)) ⟨hin, ?_⟩
    rw [hc]
    refine ek_if (hhe o ho20) (fun h => nm_r (nI_1 o) (hno (fun z => h z.1))) (fun h => ⟨hin, ek_if (hey o ho20) (fun h2 => nm_r (nI_1 o) (hno (fun z => ?_))) (fun h2 => ek_if (eh_set_t0 hx (by omega)) (fun h3 => ?_) (fun h3 => nm_r (nI_1 o) (hno (fun z => h3 z.2.2))))⟩)
    · rw [hEo, z.2.1] at h2
      exact absurd h2 (by decide)
    · have hoM : o ∈ M := Classical.not_not.mp h
      have hE : E o = true := by
        rw [hEo] at h2
        cases hh : E o
        · exact absurd hh h2
        · rfl
      have hcond : o ∈ M ∧ E o = true ∧ o ∉ L := ⟨hoM, hE, h3⟩
      obtain ⟨p1, p2, p3, p4⟩ := eh_qn_p (E := E) hQ hQM hQL o
      have hlen : (eh_qn M E L Q o).length < 20 := eh_lenlt p1 (fun x hx => hM x (p2 x hx)) ho20 (fun z => (p3 o z).elim hcond.2.2 (fun z2 => absurd z2 (Nat.lt_irrefl o)))
      have hqc : (nI (eh_qn M E L Q o).length).toNatClampNeg = (eh_qn M E L Q o).length := nI_clamp (by omega)
      have e1 : eh_qn M E L Q (o + 1) = eh_qn M E L Q o ++ [o] := if_pos hcond
      have e2 : eh_en M E L (o + 1) = (fun i => eh_en M E L o i && decide (i ≠ o)) := if_pos hcond
      have el : (eh_qn M E L Q o ++ [o]).length = (eh_qn M E L Q o).length + 1 := by rw [List.length_append]; rfl
      refine ⟨vp_in_nI hlen (by decide), ?_⟩
      rw [hqc]
      refine nm_e (nm_r (nI_1 _) ⟨hin, ?_⟩)
      rw [eh_z0]
      refine nm_e (nm_r (nI_1 o) ?_)
      have ih' := ih (o + 1) (upd ey o 0) (upd qy (eh_qn M E L Q o).length (nI o)) (by omega)
      rw [e1, e2, el] at ih'
      refine ih' (fun j hj => ?_) (eh_qput hqy)
      show upd ey o 0 j = 0 ↔ (eh_en M E L o j && decide (j ≠ o)) = false
      by_cases e : j = o
      · rw [e, pk_us, decide_eq_false (fun z => z rfl), Bool.and_false]
        exact ⟨fun _ => rfl, fun _ => rfl⟩
      · rw [pk_un e, decide_eq_true e, Bool.and_true]
        exact hey j hj
end
end
section
/-! mend, and the rest of the component's clean -/
/-- the fields behind a cleaning: P what was alive ahead of the rescue, L what is alive -/
def eh_A2 (K A : Nat → Nat) (P L : List Nat) (o : Nat) : Nat := if (K o = 1 ∧ A o ≠ 0 ∧ A o - 1 ∉ P) ∨ (K o = 2 ∧ A o ≠ 0 ∧ A o - 1 ∉ L) then 0 else A o
def eh_B2 (K A B : Nat → Nat) (P L : List Nat) (o : Nat) : Nat := if K o = 2 ∧ eh_A2 K A P L o = 0 then 0 else B o
theorem eh_A2_0 {K A : Nat → Nat} {P L : List Nat} {o : Nat} (h : K o = 0) : eh_A2 K A P L o = A o := if_neg (fun z => by rcases z with z | z <;> omega)
theorem eh_A2_1n {K A : Nat → Nat} {P L : List Nat} {o : Nat} (h : K o = 1) (g : ∀ a, A o = a + 1 → a ∉ P) : eh_A2 K A P L o = 0 := by
  unfold eh_A2
  by_cases e : A o = 0
  · rw [if_neg (fun z => by rcases z with z | z <;> exact z.2.1 e)]; exact e
  · exact if_pos (Or.inl ⟨h, e, g (A o - 1) (by omega)⟩)
theorem eh_A2_1y {K A : Nat → Nat} {P L : List Nat} {o a : Nat} (h : K o = 1) (e : A o = a + 1) (g : a ∈ P) : eh_A2 K A P L o = A o := by
  refine if_neg (fun z => ?_)
  rcases z with z | z
  · have : A o - 1 = a := by omega
    rw [this] at z
    exact z.2.2 g
  · omega
theorem eh_A2_2n {K A : Nat → Nat} {P L : List Nat} {o : Nat} (h : K o = 2) (g : ∀ a, A o = a + 1 → a ∉ L) : eh_A2 K A P L o = 0 := by
  unfold eh_A2
  by_cases e : A o = 0
  · rw [if_neg (fun z => by rcases z with z | z <;> exact z.2.1 e)]; exact e
  · exact if_pos (Or.inr ⟨h, e, g (A o - 1) (by omega)⟩)
theorem eh_A2_2y {K A : Nat → Nat} {P L : List Nat} {o a : Nat} (h : K o = 2) (e : A o = a + 1) (g : a ∈ L) : eh_A2 K A P L o = A o := by
  refine if_neg (fun z => ?_)
  rcases z with z | z
  · omega
  · have : A o - 1 = a := by omega
    rw [this] at z
    exact z.2.2 g
theorem eh_A2_le {K A B : Nat → Nat} {P L : List Nat} (h : eh_bd K A B) : eh_bd K (eh_A2 K A P L) (eh_B2 K A B P L) := by
  intro o ho
  have h1 := h o ho
  refine ⟨h1.1, ?_, ?_⟩
  · unfold eh_A2
    split
    · omega
    · exact h1.2.1
  · unfold eh_B2
    split
    · omega
    · exact h1.2.2
/-- what moved gives for target t -/
def eh_MV (s : Nat) (L : List Nat) (t : Nat) (r : Int32) : Prop := (r = -1 ∧ ∀ a, t = a + 1 → a ∉ L) ∨ ∃ j a, L[j]? = some a ∧ t = a + 1 ∧ r = nI ((1 - s) * 20 + j)
theorem eh_MV_EC {s : Nat} {L : List Nat} {t : Nat} {r : Int32} (h : eh_MV s L t r) (g : ∀ a, t = a + 1 → a ∈ L) : eh_EC (1 - s) L t r := by
  rcases h with ⟨h1, h2⟩ | ⟨j, a, h1, h2, h3⟩
  · cases t with
    | zero => exact Or.inl ⟨rfl, h1⟩
    | succ a => exact absurd (g a rfl) (h2 a rfl)
  · exact Or.inr ⟨j, a, h1, h2, h3⟩
def eh_NP (s : Nat) (M L : List Nat) (np : Nat → Int32) : Prop := ∀ i o, M[i]? = some o → (o ∉ L ∧ np (s * 20 + i) = -1) ∨ ∃ j, L[j]? = some o ∧ np (s * 20 + i) = nI ((1 - s) * 20 + j)
section
variable {s : Nat} {M : List Nat} {K A B R : Nat → Nat} {fp fw us qs sc sp cp : Int32} {pl nu ki fa fb np ro qu : Nat → Int32} {P L : List Nat}
theorem eh_moved {post : Int32 → Prop} {t : Nat} {x : Int32} (hw : eh_wM s M) (hN : eh_NP s M L np) (ht : eh_EC s M t x) (k : ∀ r, eh_MV s L t r → post r) : wpX_moved post (fp, fw, sp, us, cp, sc, qs, pl, nu, ki, fa, fb, np, ro, qu) x := by
  rcases ht with ⟨h1, h2⟩ | ⟨i, o, h1, h2, h3⟩
  · subst h1 h2
    exact br_f eh_m1le (k _ (Or.inl ⟨rfl, fun a e => by omega⟩))
  · subst h2 h3
    have hs := hw.1
    have hMl := eh_wM_l hw
    have hil := eh_ltl h1
    have hin : vp_in (nI (s * 20 + i)) 40 := vp_in_nI (by omega) (by decide)
    have hc : (nI (s * 20 + i)).toNatClampNeg = s * 20 + i := nI_clamp (by omega)
    refine br_t (nI_pos' (by omega)) ⟨hin, ?_⟩
    rw [hc]
    rcases hN i o h1 with ⟨g1, g2⟩ | ⟨j, g1, g2⟩
    · exact k _ (Or.inl ⟨g2, fun a e => (show o = a by omega) ▸ g1⟩)
    · exact k _ (Or.inr ⟨j, o, g1, rfl, g2⟩)
theorem eh_m100 {post : SX → Prop} {J : Int32 → (Nat → Int32) → (Nat → Int32) → (Nat → Int32) → (Nat → Int32) → (Nat → Int32) → (Nat → Int32) → (Nat → Int32) → (Nat → Int32) → Prop} {x2 x5 x6 : Int32} {i p t t' : Nat} (hw : eh_wM s L) (hp : p < 40) (h5 : eh_EC s L t x5) (h6 : eh_EC s L t' x6) (k : J (nI (i + 1)) pl nu ki (upd fa p x5) (upd fb p x6) np ro qu) : wX_mend_100 post J x2 (nI i) (nI p) x5 x6 fp fw sp us cp sc qs pl nu ki fa fb np ro qu := by
  have hin : vp_in (nI p) 40 := vp_in_nI hp (by decide)
  have hc : (nI p).toNatClampNeg = p := nI_clamp (by omega)
  unfold wX_mend_100
  rw [hc, (eh_EC_b hw h5).2, (eh_EC_b hw h5).1, (eh_EC_b hw h6).2, (eh_EC_b hw h6).1]
  exact ⟨hin, nm_e ⟨hin, nm_e (nm_r (nI_1 i) k)⟩⟩
theorem eh_m81 {post : SX → Prop} {J : Int32 → (Nat → Int32) → (Nat → Int32) → (Nat → Int32) → (Nat → Int32) → (Nat → Int32) → (Nat → Int32) → (Nat → Int32) → (Nat → Int32) → Prop} {x2 x3 x5 x6 : Int32} {p q : Nat} (hp : p < 40) (hk : ki p = nI q) (hq : q ≤ 2) (k1 : q = 2 → 0 ≤ x5 → wX_mend_100 post J x2 x3 (nI p) x5 x6 fp fw sp us cp sc qs pl nu ki fa fb np ro qu) (k2 : q = 2 → ¬ 0 ≤ x5 → wX_mend_100 post J x2 x3 (nI p) x5 (-1) fp fw sp us cp sc qs pl nu ki fa fb np ro qu) (k3 : q ≠ 2 → wX_mend_100 post J x2 x3 (nI p) x5 x6 fp fw sp us cp sc qs pl nu ki fa fb np ro qu) : wX_mend_81 post J x2 x3 (nI p) x5 x6 fp fw sp us cp sc qs pl nu ki fa fb np ro qu := by
  have hin : vp_in (nI p) 40 := vp_in_nI hp (by decide)
  have hc : (nI p).toNatClampNeg = p := nI_clamp (by omega)
  unfold wX_mend_81
  rw [hc, hk]
  refine ⟨hin, ek_if (nI_eq (b := 2) (by omega) (by decide)) (fun e => br_c (k1 e) (k2 e)) k3⟩
theorem eh_m14 {post : SX → Prop} (hw : eh_wM s M) (hb : eh_bd K A B) (hwL : eh_wM (1 - s) L) (hN : eh_NP s M L np) (hcl : eh_cl K A B (fun o => o ∈ L)) (hP : eh_ext P L) (hki : ∀ i o, L[i]? = some o → ki ((1 - s) * 20 + i) = nI (K o)) (k : ∀ fa' fb' : Nat → Int32, (∀ j o, L[j]? = some o → eh_EC (1 - s) L (eh_A2 K A P L o) (fa' ((1 - s) * 20 + j)) ∧ eh_EC (1 - s) L (eh_B2 K A B P L o) (fb' ((1 - s) * 20 + j))) → post (fp, fw, nI s, us, nI L.length, sc, qs, pl, nu, ki, fa', fb', np, ro, qu)) : ∀ (d i : Nat) (fa fb : Nat → Int32), i + d = L.length → (∀ j o, j < i → L[j]? = some o → eh_EC (1 - s) L (eh_A2 K A P L o) (fa ((1 - s) * 20 + j)) ∧ eh_EC (1 - s) L (eh_B2 K A B P L o) (fb ((1 - s) * 20 + j))) → (∀ j o, i ≤ j → L[j]? = some o → eh_EC s M (A o) (fa ((1 - s) * 20 + j)) ∧ eh_EC s M (B o) (fb ((1 - s) * 20 + j))) → wX_mend_14 post (nI ((1 - s) * 20 + P.length)) fp fw (nI s) us (nI L.length) sc qs (d + 1) (nI i) pl nu ki fa fb np ro qu := by
  have hl := eh_wM_l hwL
  have hs := hw.1
  have hPl := eh_ext_l hP
  intro d
  induction d with
  | zero =>
    intro i fa fb hi hlo hhi
    have e : i = L.length := by omega
    subst e
    exact br_t (nI_le (Nat.le_refl _) (by omega)) (k fa fb (fun j o h => hlo j o (eh_ltl h) h))
  | succ d ih =>
    intro i fa fb hi hlo hhi
    obtain ⟨o, eo⟩ := eh_gx (show i < L.length by omega)
    have hoL := List.mem_of_getElem? eo
    have ho20 := hwL.2.2 o hoL
    have hin : vp_in (nI ((1 - s) * 20 + i)) 40 := vp_in_nI (by omega) (by decide)
    have hc : (nI ((1 - s) * 20 + i)).toNatClampNeg = (1 - s) * 20 + i := nI_clamp (by omega)
    have hok := hcl o hoL
    have hK2 := (hb o ho20).1
    have hp : (1 - s) * 20 + i < 40 := by omega
    have hJ : ∀ a' b' : Int32, eh_EC (1 - s) L (eh_A2 K A P L o) a' → eh_EC (1 - s) L (eh_B2 K A B P L o) b' → wX_mend_14 post (nI ((1 - s) * 20 + P.length)) fp fw (nI s) us (nI L.length) sc qs (d + 1) (nI (i + 1)) pl nu ki (upd fa ((1 - s) * 20 + i) a') (upd fb ((1 - s) * 20 + i) b') np ro qu := by
      intro a' b' ha hb'
      refine ih (i + 1) _ _ (by omega) (fun j o' hj ej => ?_) (fun j o' hj ej => ?_)
      · by_cases e : j = i
        · rw [e, eo] at ej
          rw [e, ← Option.some.inj ej, pk_us, pk_us]
          exact ⟨ha, hb'⟩
        · rw [pk_un (by omega), pk_un (by omega)]
          exact hlo j o' (by omega) ej
      · rw [pk_un (by omega), pk_un (by omega)]
        exact hhi j o' (by omega) ej
    have h100 : ∀ a' b' : Int32, eh_EC (1 - s) L (eh_A2 K A P L o) a' → eh_EC (1 - s) L (eh_B2 K A B P L o) b' → wX_mend_100 post (wX_mend_14 post (nI ((1 - s) * 20 + P.length)) fp fw (nI s) us (nI L.length) sc qs (d + 1)) (nI ((1 - s) * 20 + P.length)) (nI i) (nI ((1 - s) * 20 + i)) a' b' fp fw (nI s) us (nI L.length) sc qs pl nu ki fa fb np ro qu := fun a' b' ha hb' => eh_m100 hwL hp ha hb' (hJ a' b' ha hb')
    refine br_f (nI_ge (by omega) (by omega)) (nm_r (eh_plt hs) ⟨hin, ?_⟩)
    rw [hc]
    refine eh_moved hw hN (hhi i o (Nat.le_refl i) eo).1 (fun ra hra => ⟨hin, eh_moved hw hN (hhi i o (Nat.le_refl i) eo).2 (fun rb hrb => ⟨hin, ?_⟩)⟩)
    rw [hki i o eo]
    have hKc : K o = 0 ∨ K o = 1 ∨ K o = 2 := by omega
    rcases hKc with e | e | e
    · have eB : eh_B2 K A B P L o = B o := if_neg (fun z => by omega)
      refine br_f (by rw [e]; decide) (eh_m81 hp (hki i o eo) hK2 (fun z => by omega) (fun z => by omega) (fun _ => h100 ra rb ?_ ?_))
      · rw [eh_A2_0 e]; exact eh_MV_EC hra (fun a ea => hok.1 a e ea)
      · rw [eB]; exact eh_MV_EC hrb (fun b eb => hok.2.1 b (by omega) eb)
    · have eB : eh_B2 K A B P L o = B o := if_neg (fun z => by omega)
      have hB : eh_EC (1 - s) L (eh_B2 K A B P L o) rb := by
        rw [eB]; exact eh_MV_EC hrb (fun b eb => hok.2.1 b (by omega) eb)
      have h81 : ∀ a' : Int32, eh_EC (1 - s) L (eh_A2 K A P L o) a' → wX_mend_81 post (wX_mend_14 post (nI ((1 - s) * 20 + P.length)) fp fw (nI s) us (nI L.length) sc qs (d + 1)) (nI ((1 - s) * 20 + P.length)) (nI i) (nI ((1 - s) * 20 + i)) a' rb fp fw (nI s) us (nI L.length) sc qs pl nu ki fa fb np ro qu := fun a' ha => eh_m81 hp (hki i o eo) hK2 (fun z => by omega) (fun z => by omega) (fun _ => h100 a' rb ha hB)
      refine br_t (by rw [e]; rfl) ?_
      rcases hra with ⟨h1, h2⟩ | ⟨j, a, h1, h2, h3⟩
      · subst h1
        refine br_t (Int32.lt_of_lt_of_le eh_m1lt (nI_pos' (by omega))) (h81 _ ?_)
        rw [eh_A2_1n e (fun a ea z => h2 a ea (eh_ext_m hP z))]
        exact Or.inl ⟨rfl, rfl⟩
      · have hjl := eh_ltl h1
        by_cases hj : j < P.length
        · obtain ⟨a', ea'⟩ := eh_gx hj
          have ea : a' = a := Option.some.inj ((eh_ext_i hP ea').symm.trans h1)
          have haP : a ∈ P := by rw [← ea]; exact List.mem_of_getElem? ea'
          refine br_t (by rw [h3]; exact nI_lt (by omega) (by omega)) (h81 _ ?_)
          rw [eh_A2_1y e h2 haP]
          exact Or.inr ⟨j, a, h1, h2, h3⟩
        · have haP : a ∉ P := by
            intro z
            obtain ⟨j', ej'⟩ := List.mem_iff_getElem?.mp z
            have := eh_inj hwL.2.1 (eh_ext_i hP ej') h1
            have := eh_ltl ej'
            omega
          refine br_f (by rw [h3]; exact nI_nlt (by omega) (by omega)) (h81 _ ?_)
          rw [eh_A2_1n e (fun a2 ea2 => (show a = a2 by omega) ▸ haP)]
          exact Or.inl ⟨rfl, rfl⟩
    · refine br_f (by rw [e]; decide) ?_
      rcases hra with ⟨h1, h2⟩ | ⟨j, a, h1, h2, h3⟩
      · subst h1
        have eA : eh_A2 K A P L o = 0 := eh_A2_2n e h2
        have eB : eh_B2 K A B P L o = 0 := if_pos ⟨e, eA⟩
        refine eh_m81 hp (hki i o eo) hK2 (fun _ z => absurd z eh_m1le) (fun _ _ => h100 _ _ ?_ ?_) (fun z => absurd e z)
        · rw [eA]; exact Or.inl ⟨rfl, rfl⟩
        · rw [eB]; exact Or.inl ⟨rfl, rfl⟩
      · have hjl := eh_ltl h1
        have haL := List.mem_of_getElem? h1
        have eA : eh_A2 K A P L o = A o := eh_A2_2y e h2 haL
        have eB : eh_B2 K A B P L o = B o := if_neg (fun z => by rw [eA] at z; omega)
        refine eh_m81 hp (hki i o eo) hK2 (fun _ _ => h100 _ _ ?_ ?_) (fun _ z => absurd (show (0 : Int32) ≤ ra by rw [h3]; exact nI_pos' (by omega)) z) (fun z => absurd e z)
        · rw [eA]; exact Or.inr ⟨j, a, h1, h2, h3⟩
        · rw [eB]; exact eh_MV_EC hrb (fun b eb => hok.2.2 a b e h2 haL eb)
theorem eh_ones {post : Int32 → Prop} {x : Int32} (k : post (nI (eh_cn (fun i => bt x i) 20))) : wpX_ones post x := by
  have h : ∀ d o, o + d = 20 → wX_ones_4 post x (d + 1) (nI (eh_cn (fun i => bt x i) o)) (nI o) := by
    intro d
    induction d with
    | zero =>
      intro o ho
      have e : o = 20 := by omega
      subst e
      exact br_t (show (20 : Int32) ≤ nI 20 from nI_le (Nat.le_refl 20) (by decide)) k
    | succ d ih =>
      intro o ho
      refine br_f (nI_ge (b := 20) (by omega) (by decide)) (nm_r ?_ (nm_r (nI_1 o) (ih (o + 1) (by omega))))
      rw [eh_bitv x (by omega)]
      show _ = nI (eh_cn (fun i => bt x i) o + (bt x o).toNat)
      cases bt x o
      · rw [if_neg (by decide)]
        exact Int32.add_zero _
      · rw [if_pos rfl]
        exact nI_1 _
  exact ⟨21, h 20 0 rfl⟩
theorem eh_x81 {post : Int32 → SX → Prop} {x2 : Int32} (hs : s ≤ 1) (hw : eh_wM s L) (hnu : ∀ i o, L[i]? = some o → nu (s * 20 + i) = nI o) (k : ∀ (fp' : Int32) (pl' : Nat → Int32), eh_set fp' (fun i => i ∈ L) → (∀ j o, L[j]? = some o → pl' o = nI (s * 20 + j)) → post (x2 - nI L.length) (fp', fw &&& fp', nI s, us, nI L.length, sc, qs, pl', nu, ki, fa, fb, np, ro, qu)) : ∀ (d i : Nat) (fp : Int32) (pl : Nat → Int32), i + d = L.length → eh_set fp (fun a => ∃ j, j < i ∧ L[j]? = some a) → (∀ j o, j < i → L[j]? = some o → pl o = nI (s * 20 + j)) → wX_clean_81 post x2 fw (nI s) us (nI L.length) sc qs (d + 1) (nI i) fp pl nu ki fa fb np ro qu := by
  have hl := eh_wM_l hw
  intro d
  induction d with
  | zero =>
    intro i fp pl hi hfp hpl
    have e : i = L.length := by omega
    subst e
    refine br_t (nI_le (Nat.le_refl _) (by omega)) (nm_e (k fp pl (eh_set_c hfp (fun a _ => ⟨fun h => ?_, fun h => ?_⟩)) (fun j o h => hpl j o (eh_ltl h) h)))
    · obtain ⟨j, _, ej⟩ := h
      exact List.mem_of_getElem? ej
    · obtain ⟨j, ej⟩ := List.mem_iff_getElem?.mp h
      exact ⟨j, eh_ltl ej, ej⟩
  | succ d ih =>
    intro i fp pl hi hfp hpl
    obtain ⟨o, eo⟩ := eh_gx (show i < L.length by omega)
    have ho20 := hw.2.2 o (List.mem_of_getElem? eo)
    have hin : vp_in (nI (s * 20 + i)) 40 := vp_in_nI (by omega) (by decide)
    have hc : (nI (s * 20 + i)).toNatClampNeg = s * 20 + i := nI_clamp (by omega)
    have hcO : (nI o).toNatClampNeg = o := nI_clamp (by omega)
    refine br_f (nI_ge (by omega) (by omega)) (nm_r eh_pls ⟨hin, ?_⟩)
    rw [hc, hnu i o eo, hcO, eh_nb2 (by omega)]
    refine nm_e ⟨hin, vp_in_nI ho20 (by decide), nm_e (nm_r (nI_1 i) (ih (i + 1) _ _ (by omega) ?_ ?_))⟩
    · refine eh_set_c (eh_set_or hfp (eh_set_one (by omega))) (fun a _ => ⟨fun h => ?_, fun h => ?_⟩)
      · rcases h with ⟨j, hj, ej⟩ | h
        · exact ⟨j, by omega, ej⟩
        · exact ⟨i, by omega, by rw [h]; exact eo⟩
      · obtain ⟨j, hj, ej⟩ := h
        by_cases e : j = i
        · rw [e, eo] at ej
          exact Or.inr (Option.some.inj ej).symm
        · exact Or.inl ⟨j, by omega, ej⟩
    · intro j o' hj ej
      by_cases e : o' = o
      · rw [e] at ej
        rw [e, pk_us, eh_inj hw.2.1 ej eo]
      · rw [pk_un e]
        refine hpl j o' ?_ ej
        have : j ≠ i := fun z => e (by rw [z, eo] at ej; exact (Option.some.inj ej).symm)
        omega
theorem eh_x28 {post : Int32 → SX → Prop} {x2 : Int32} (hw : eh_wM s M) (hwL : eh_wM (1 - s) L) (hN : eh_NP s M L np) (hR : ∀ r o, r < 4 → R r = o + 1 → o ∈ L) (k : ∀ ro' : Nat → Int32, (∀ r, r < 4 → eh_EC (1 - s) L (R r) (ro' r)) → ∃ n : Nat, wX_clean_81 post x2 fw (nI (1 - s)) cp cp sc qs n 0 0 pl nu ki fa fb np ro' qu) : ∀ (d r : Nat) (ro : Nat → Int32), r + d = 4 → (∀ q, q < r → eh_EC (1 - s) L (R q) (ro q)) → (∀ q, r ≤ q → q < 4 → eh_EC s M (R q) (ro q)) → wX_clean_28 post x2 fp fw (nI s) us cp sc qs (d + 1) (nI r) pl nu ki fa fb np ro qu := by
  intro d
  induction d with
  | zero =>
    intro r ro hr hlo hhi
    have e : r = 4 := by omega
    subst e
    exact br_t (show (4 : Int32) ≤ nI 4 from nI_le (Nat.le_refl 4) (by decide)) (nm_r (eh_1s hw.1) (k ro hlo))
  | succ d ih =>
    intro r ro hr hlo hhi
    have hr4 : r < 4 := by omega
    have hin : vp_in (nI r) 4 := vp_in_nI hr4 (by decide)
    have hc : (nI r).toNatClampNeg = r := nI_clamp (by omega)
    refine br_f (nI_ge (b := 4) hr4 (by decide)) ⟨hin, ?_⟩
    rw [hc]
    refine eh_moved hw hN (hhi r (Nat.le_refl r) hr4) (fun x hx => ⟨hin, ?_⟩)
    have hE := eh_MV_EC hx (fun a ea => hR r a hr4 ea)
    rw [(eh_EC_b hwL hE).2, (eh_EC_b hwL hE).1]
    refine nm_e (nm_r (nI_1 r) (ih (r + 1) _ (by omega) (fun q hq => ?_) (fun q h1 h2 => ?_)))
    · by_cases e : q = r
      · rw [e, pk_us]; exact hE
      · rw [pk_un e]; exact hlo q (by omega)
    · rw [pk_un (by omega)]; exact hhi q (by omega) h2
end
end
section
/-! the rest of the reference's clean -/
section
variable {M : List Nat} {K A B R : Nat → Nat} {wt : Int32} {he ky ey aa bb ry qy : Nat → Int32} {P L : List Nat}
theorem eh_k222 {post : Int32 → SY → Prop} {J : Int32 → Int32 → (Nat → Int32) → (Nat → Int32) → (Nat → Int32) → (Nat → Int32) → (Nat → Int32) → (Nat → Int32) → (Nat → Int32) → Prop} {x1 x2 z : Int32} {o cnt : Nat} (ho : o < 20) (hhe : he o = 0 ↔ o ∉ M) (hx2 : eh_set x2 (fun i => i ∈ L)) (hLM : ∀ a, a ∈ L → a ∈ M) (k : ∀ h' : Int32, (h' = 0 ↔ o ∉ L) → J (nI (cnt + (decide (o ∈ M) && !decide (o ∈ L)).toNat)) (nI (o + 1)) (upd he o h') ky ey aa (upd bb o z) ry qy) : wY_clean_222 post J x1 x2 (nI cnt) (nI o) z (nI o) wt he ky ey aa bb ry qy := by
  have hin : vp_in (nI o) 20 := vp_in_nI ho (by decide)
  have hc : (nI o).toNatClampNeg = o := nI_clamp (by omega)
  unfold wY_clean_222 wY_clean_246 wY_clean_247 wY_clean_261
  rw [hc]
  refine ⟨hin, nm_e ⟨hin, ?_⟩⟩
  by_cases hM : o ∈ M
  · have hne : ¬ he o = 0 := fun z => hhe.mp z hM
    refine br_f hne (ek_if (eh_set_t0 hx2 (by omega)) (fun hL => ?_) (fun hL => ?_))
    · have k' := k 0 ⟨fun _ => hL, fun _ => rfl⟩
      rw [decide_eq_true hM, decide_eq_false hL] at k'
      exact br_f (by decide) ⟨hin, br_f hne (br_f (by decide) ⟨hin, nm_e (nm_r (nI_1 o) (by rw [nI_1]; exact k'))⟩)⟩
    · have hL' : o ∈ L := Classical.not_not.mp hL
      have k' := k 1 ⟨fun z => absurd z (by decide), fun z => absurd z hL⟩
      rw [decide_eq_true hM, decide_eq_true hL'] at k'
      exact br_t rfl ⟨hin, br_f hne (br_t rfl ⟨hin, nm_e (nm_r (nI_1 o) k')⟩)⟩
  · have hL : o ∉ L := fun z => hM (hLM o z)
    have h0 : he o = 0 := hhe.mpr hM
    have k' := k 0 ⟨fun _ => hL, fun _ => rfl⟩
    rw [decide_eq_false hM, Bool.false_and] at k'
    exact br_t h0 (br_t rfl ⟨hin, br_t h0 ⟨hin, nm_e (nm_r (nI_1 o) k')⟩⟩)
theorem eh_k183 {post : Int32 → SY → Prop} {J : Int32 → Int32 → (Nat → Int32) → (Nat → Int32) → (Nat → Int32) → (Nat → Int32) → (Nat → Int32) → (Nat → Int32) → (Nat → Int32) → Prop} {x1 x2 z : Int32} {o cnt : Nat} (ho : o < 20) (hhe : he o = 0 ↔ o ∉ M) (hx2 : eh_set x2 (fun i => i ∈ L)) (hLM : ∀ a, a ∈ L → a ∈ M) (hb : eh_bd K A B) (hky : ky o = nI (K o)) (hbb : bb o = nI (B o)) (hz : z = nI (eh_A2 K A P L o)) (k : ∀ h' : Int32, (h' = 0 ↔ o ∉ L) → J (nI (cnt + (decide (o ∈ M) && !decide (o ∈ L)).toNat)) (nI (o + 1)) (upd he o h') ky ey (upd aa o (nI (eh_A2 K A P L o))) (upd bb o (nI (eh_B2 K A B P L o))) ry qy) : wY_clean_183 post J x1 x2 (nI cnt) (nI o) z (nI o) wt he ky ey aa bb ry qy := by
  have hin : vp_in (nI o) 20 := vp_in_nI ho (by decide)
  have hc : (nI o).toNatClampNeg = o := nI_clamp (by omega)
  have hA2 := (eh_A2_le (P := P) (L := L) hb o ho).2.1
  subst hz
  unfold wY_clean_183
  rw [hc, hky]
  refine ⟨hin, nm_e ⟨hin, ek_if (nI_eq (b := 2) (by have := hb o ho; omega) (by decide)) (fun e => ⟨hin, ?_⟩) (fun e => ?_)⟩⟩
  · rw [pk_us]
    refine ek_if (nI_eq (b := 0) (by omega) (by decide)) (fun e2 => ?_) (fun e2 => ?_)
    · have eB : eh_B2 K A B P L o = 0 := if_pos ⟨e, e2⟩
      rw [eB] at k
      exact eh_k222 ho hhe hx2 hLM k
    · have eB : eh_B2 K A B P L o = B o := if_neg (fun z => e2 z.2)
      rw [eB] at k
      unfold wY_clean_215
      rw [hc, hbb]
      exact ⟨hin, eh_k222 ho hhe hx2 hLM k⟩
  · have eB : eh_B2 K A B P L o = B o := if_neg (fun z => e z.1)
    rw [eB] at k
    unfold wY_clean_215
    rw [hc, hbb]
    exact ⟨hin, eh_k222 ho hhe hx2 hLM k⟩
theorem eh_k82 {post : Int32 → SY → Prop} {x1 x2 : Int32} (hx1 : eh_set x1 (fun i => i ∈ P)) (hx2 : eh_set x2 (fun i => i ∈ L)) (hLM : ∀ a, a ∈ L → a ∈ M) (hb : eh_bd K A B) (hky : ∀ o, o < 20 → ky o = nI (K o)) (k : ∀ he' aa' bb' : Nat → Int32, (∀ o, o < 20 → (he' o = 0 ↔ o ∉ L) ∧ aa' o = nI (eh_A2 K A P L o) ∧ bb' o = nI (eh_B2 K A B P L o)) → post (nI (eh_cn (fun o => decide (o ∈ M) && !decide (o ∈ L)) 20)) (wt, he', ky, ey, aa', bb', ry, qy)) : ∀ (d o : Nat) (he aa bb : Nat → Int32), o + d = 20 → (∀ j, j < o → (he j = 0 ↔ j ∉ L) ∧ aa j = nI (eh_A2 K A P L j) ∧ bb j = nI (eh_B2 K A B P L j)) → (∀ j, o ≤ j → j < 20 → (he j = 0 ↔ j ∉ M) ∧ aa j = nI (A j) ∧ bb j = nI (B j)) → wY_clean_82 post x1 x2 wt (d + 1) (nI (eh_cn (fun o => decide (o ∈ M) && !decide (o ∈ L)) o)) (nI o) he ky ey aa bb ry qy := by
  intro d
  induction d with
  | zero =>
    intro o he aa bb ho hlo hhi
    have e : o = 20 := by omega
    subst e
    exact br_t (show (20 : Int32) ≤ nI 20 from nI_le (Nat.le_refl 20) (by decide)) (k he aa bb hlo)
  | succ d ih =>
    intro o he aa bb ho hlo hhi
    have ho20 : o < 20 := by omega
    have hin : vp_in (nI o) 20 := vp_in_nI ho20 (by decide)
    have hc : (nI o).toNatClampNeg = o := nI_clamp (by omega)
    obtain ⟨hhe, haa, hbb⟩ := hhi o (Nat.le_refl o) ho20
    have hbd := hb o ho20
    have h183 : ∀ z : Int32, z = nI (eh_A2 K A P L o) → wY_clean_183 post (wY_clean_82 post x1 x2 wt (d + 1)) x1 x2 (nI (eh_cn (fun o => decide (o ∈ M) && !decide (o ∈ L)) o)) (nI o) z (nI o) wt he ky ey aa bb ry qy := by
      intro z hz
      refine eh_k183 ho20 hhe hx2 hLM hb (hky o ho20) hbb hz (fun h' hh' => ?_)
      refine ih (o + 1) _ _ _ (by omega) (fun j hj => ?_) (fun j h1 h2 => ?_)
      · by_cases e : j = o
        · rw [e, pk_us, pk_us, pk_us]
          exact ⟨hh', rfl, rfl⟩
        · rw [pk_un e, pk_un e, pk_un e]
          exact hlo j (by omega)
      · have e : j ≠ o := by omega
        rw [pk_un e, pk_un e, pk_un e]
        exact hhi j (by omega) h2
    refine br_f (nI_ge (b := 20) ho20 (by decide)) ⟨hin, ?_⟩
    rw [hc, haa]
    refine eh_ybit hbd.2.1 (fun a sa => ⟨hin, ?_⟩)
    rw [hky o ho20]
    have hK : K o = 0 ∨ K o = 1 ∨ K o = 2 := by omega
    unfold wY_clean_126 wY_clean_127 wY_clean_153 wY_clean_154 wY_clean_172
    rw [hc, hky o ho20, haa]
    have z1 := eh_set_z (eh_set_and sa (eh_set_not hx1))
    have z2 := eh_set_z (eh_set_and sa (eh_set_not hx2))
    rcases hK with e | e | e
    · exact br_f (by rw [e]; decide) ⟨hin, br_f (by rw [e]; decide) (br_t rfl (br_t rfl ⟨hin, h183 _ (by rw [eh_A2_0 e])⟩))⟩
    · refine br_t (by rw [e]; rfl) (ek_if z1 (fun h => ?_) (fun h => ?_))
      · refine ⟨hin, br_f (by rw [e]; decide) (br_t rfl (br_t rfl ⟨hin, h183 _ ?_⟩))⟩
        by_cases e0 : A o = 0
        · rw [eh_A2_1n e (fun a ea => by omega), e0]
        · have ea : A o = (A o - 1) + 1 := by omega
          rw [eh_A2_1y e ea (Classical.byContradiction (fun hn => h (A o - 1) (by omega) ⟨ea, hn⟩))]
      · refine ⟨hin, br_f (by rw [e]; decide) (br_f (by decide) (h183 _ ?_))⟩
        have hex : ∃ i, A o = i + 1 ∧ i ∉ P := Classical.byContradiction (fun hn => h (fun i _ hi => hn ⟨i, hi⟩))
        obtain ⟨i, ei, hi⟩ := hex
        rw [eh_A2_1n e (fun a ea => (show i = a by omega) ▸ hi)]
        rfl
    · refine br_f (by rw [e]; decide) ⟨hin, br_t (by rw [e]; rfl) (ek_if z2 (fun h => ?_) (fun h => ?_))⟩
      · refine br_t rfl (br_t rfl ⟨hin, h183 _ ?_⟩)
        by_cases e0 : A o = 0
        · rw [eh_A2_2n e (fun a ea => by omega), e0]
        · have ea : A o = (A o - 1) + 1 := by omega
          rw [eh_A2_2y e ea (Classical.byContradiction (fun hn => h (A o - 1) (by omega) ⟨ea, hn⟩))]
      · refine br_t rfl (br_f (by decide) (h183 _ ?_))
        have hex : ∃ i, A o = i + 1 ∧ i ∉ L := Classical.byContradiction (fun hn => h (fun i _ hi => hn ⟨i, hi⟩))
        obtain ⟨i, ei, hi⟩ := hex
        rw [eh_A2_2n e (fun a ea => (show i = a by omega) ▸ hi)]
        rfl
end
end
section
/-! the relation; what calls ask first -/
def eh_F (s : Nat) (M : List Nat) (E : Nat → Bool) (K A B R : Nat → Nat) (Q : List Nat) (fp fw : Int32) (pl nu ki fa fb ro qu he ky ey aa bb ry qy : Nat → Int32) : Prop :=
  eh_wf s M K A B R Q ∧ eh_set fp (fun i => i ∈ M) ∧ eh_set fw (fun i => i ∈ M ∧ E i = true) ∧ eh_XS s M K A B R Q pl nu ki fa fb ro qu ∧ (∀ o, o < 20 → (he o = 0 ↔ o ∉ M) ∧ (ey o = 0 ↔ E o = false)) ∧ eh_YG K A B R Q ky aa bb ry qy
/-- M: the objects of the space in use, by their places; E: watched; K, A, B: kinds and targets (0: none) by the object's number; R: the roots' targets; Q: the queue -/
def i_Rel (k : Nat) (u : SX) (v : SY) : Prop := match u, v with
  | (fp, fw, sp, us, cp, sc, qs, pl, nu, ki, fa, fb, np, ro, qu), (wt, he, ky, ey, aa, bb, ry, qy) => ∃ (s : Nat) (M : List Nat) (E : Nat → Bool) (K A B R : Nat → Nat) (Q : List Nat), sp = nI s ∧ us = nI M.length ∧ qs = nI Q.length ∧ wt = nI Q.length ∧ eh_F s M E K A B R Q fp fw pl nu ki fa fb ro qu he ky ey aa bb ry qy
theorem i_up {k : Nat} {u : SX} {v : SY} (h : i_Rel k u v) : i_Rel (k + 4) u v := h
theorem eh_in {k : Nat} {s : Nat} {M : List Nat} {E : Nat → Bool} {K A B R : Nat → Nat} {Q : List Nat} {fp fw cp sc : Int32} {pl nu ki fa fb np ro qu he ky ey aa bb ry qy : Nat → Int32} (h : eh_F s M E K A B R Q fp fw pl nu ki fa fb ro qu he ky ey aa bb ry qy) : i_Rel k (fp, fw, nI s, nI M.length, cp, sc, nI Q.length, pl, nu, ki, fa, fb, np, ro, qu) (nI Q.length, he, ky, ey, aa, bb, ry, qy) :=
  ⟨s, M, E, K, A, B, R, Q, rfl, rfl, rfl, rfl, h⟩
theorem eh_el {k : Nat} {P : SX → SY → Prop} (h : ∀ (s : Nat) (M : List Nat) (E : Nat → Bool) (K A B R : Nat → Nat) (Q : List Nat) (fp fw cp sc : Int32) (pl nu ki fa fb np ro qu he ky ey aa bb ry qy : Nat → Int32), eh_F s M E K A B R Q fp fw pl nu ki fa fb ro qu he ky ey aa bb ry qy → P (fp, fw, nI s, nI M.length, cp, sc, nI Q.length, pl, nu, ki, fa, fb, np, ro, qu) (nI Q.length, he, ky, ey, aa, bb, ry, qy)) {u : SX} {v : SY} (I : i_Rel k u v) : P u v := by
  obtain ⟨fp, fw, sp, us, cp, sc, qs, pl, nu, ki, fa, fb, np, ro, qu⟩ := u
  obtain ⟨wt, he, ky, ey, aa, bb, ry, qy⟩ := v
  obtain ⟨s, M, E, K, A, B, R, Q, e1, e2, e3, e4, hF⟩ := I
  subst e1 e2 e3 e4
  exact h s M E K A B R Q fp fw cp sc pl nu ki fa fb np ro qu he ky ey aa bb ry qy hF
def eh_un (f : Nat → Nat) (k v : Nat) : Nat → Nat := fun j => if j = k then v else f j
theorem eh_us {f : Nat → Nat} {k v : Nat} : eh_un f k v k = v := if_pos rfl
theorem eh_ue {f : Nat → Nat} {k j v : Nat} (h : j ≠ k) : eh_un f k v j = f j := if_neg h
/-- v is the argument for target t -/
def eh_tg (M : List Nat) (t : Nat) (v : Int32) : Prop := (t = 0 ∧ v = -1) ∨ ∃ q, q ∈ M ∧ t = q + 1 ∧ v = nI q
theorem eh_tg_c (M : List Nat) (v : Int32) : (∃ t, eh_tg M t v) ∨ (v ≠ -1 ∧ ∀ q, q ∈ M → v ≠ nI q) := by
  by_cases h : v = -1
  · exact Or.inl ⟨0, Or.inl ⟨rfl, h⟩⟩
  · by_cases g : ∃ q, q ∈ M ∧ v = nI q
    · obtain ⟨q, h1, h2⟩ := g
      exact Or.inl ⟨q + 1, Or.inr ⟨q, h1, rfl, h2⟩⟩
    · exact Or.inr ⟨h, fun q h1 h2 => g ⟨q, h1, h2⟩⟩
theorem eh_tg_1 {M : List Nat} {t : Nat} {v : Int32} (h : eh_tg M t v) : v + 1 = nI t := by
  rcases h with ⟨h1, h2⟩ | ⟨q, h1, h2, h3⟩
  · rw [h1, h2]; decide
  · rw [h2, h3]; exact nI_1 q
theorem eh_tg_le {M : List Nat} {t : Nat} {v : Int32} (hM : ∀ o, o ∈ M → o < 20) (h : eh_tg M t v) : t ≤ 20 := by
  rcases h with ⟨h1, h2⟩ | ⟨q, h1, h2, h3⟩
  · omega
  · have := hM q h1
    omega
section
variable {s : Nat} {M : List Nat} {E : Nat → Bool} {K A B R : Nat → Nat} {Q : List Nat} {fp fw us cp sc qs sp wt : Int32} {pl nu ki fa fb np ro qu he ky ey aa bb ry qy : Nat → Int32}
theorem eh_has1 {post : Int32 → Prop} {o : Nat} (hfp : eh_set fp (fun i => i ∈ M)) (hM : ∀ o, o ∈ M → o < 20) (ho : o ∈ M) (k : post 1) : wpX_has post (fp, fw, sp, us, cp, sc, qs, pl, nu, ki, fa, fb, np, ro, qu) (nI o) :=
  eh_has hfp hM (fun h => absurd rfl (h o ho)) (fun _ _ _ => k)
theorem eh_has0 {post : Int32 → Prop} {v : Int32} (hfp : eh_set fp (fun i => i ∈ M)) (hM : ∀ o, o ∈ M → o < 20) (hv : ∀ o, o ∈ M → v ≠ nI o) (k : post 0) : wpX_has post (fp, fw, sp, us, cp, sc, qs, pl, nu, ki, fa, fb, np, ro, qu) v :=
  eh_has hfp hM (fun _ => k) (fun o ho e => absurd e (hv o ho))
theorem eh_is {post : Int32 → Prop} {v : Int32} (hhe : ∀ o, o < 20 → (he o = 0 ↔ o ∉ M)) (hM : ∀ o, o ∈ M → o < 20) (k0 : (∀ o, o ∈ M → v ≠ nI o) → post 0) (k1 : ∀ o, o ∈ M → v = nI o → post 1) : wpY_is post (wt, he, ky, ey, aa, bb, ry, qy) v := by
  rcases pk_ix v (n := 20) (by decide) with h | h | ⟨j, hj, e⟩
  · refine br_t h (k0 (fun o ho e => ?_))
    have := hM o ho
    rw [e] at h
    exact nI_pos (by omega) h
  · have h0 : ¬ v < 0 := fun z => absurd (Int32.lt_of_le_of_lt h z) (by decide)
    refine br_f h0 (br_t h (k0 (fun o ho e => ?_)))
    have := hM o ho
    rw [e] at h
    exact nI_ge (by omega) (by decide) h
  · subst e
    have hc : (nI j).toNatClampNeg = j := nI_clamp (by omega)
    refine br_f (nI_pos (by omega)) (br_f (nI_ge (b := 20) hj (by decide)) ⟨vp_in_nI hj (by decide), ?_⟩)
    rw [hc]
    refine ek_if (hhe j hj) (fun h => k0 (fun o ho e => ?_)) (fun h => k1 j (Classical.not_not.mp h) rfl)
    have := hM o ho
    have e2 : j = o := (nI_eq (by omega) (by omega)).mp e
    rw [e2] at h
    exact h ho
theorem eh_is1 {post : Int32 → Prop} {o : Nat} (hhe : ∀ o, o < 20 → (he o = 0 ↔ o ∉ M)) (hM : ∀ o, o ∈ M → o < 20) (ho : o ∈ M) (k : post 1) : wpY_is post (wt, he, ky, ey, aa, bb, ry, qy) (nI o) :=
  eh_is hhe hM (fun h => absurd rfl (h o ho)) (fun _ _ _ => k)
theorem eh_is0 {post : Int32 → Prop} {v : Int32} (hhe : ∀ o, o < 20 → (he o = 0 ↔ o ∉ M)) (hM : ∀ o, o ∈ M → o < 20) (hv : ∀ o, o ∈ M → v ≠ nI o) (k : post 0) : wpY_is post (wt, he, ky, ey, aa, bb, ry, qy) v :=
  eh_is hhe hM (fun _ => k) (fun o ho e => absurd e (hv o ho))
theorem eh_rt1 {post : Int32 → Prop} {r : Nat} (hr : r < 4) (k : post 1) : wpX_isRoot post (nI r) :=
  br_f (nI_pos (by omega)) (br_f (nI_ge (b := 4) hr (by decide)) k)
theorem eh_rt0 {post : Int32 → Prop} {v : Int32} (hv : v < 0 ∨ (4 : Int32) ≤ v) (k : post 0) : wpX_isRoot post v := by
  by_cases h : v < 0
  · exact br_t h k
  · exact br_f h (br_t (hv.resolve_left h) k)
theorem eh_plf {post : Int32 → Prop} {t : Nat} {v : Int32} (hM : ∀ o, o ∈ M → o < 20) (hS : eh_XS s M K A B R Q pl nu ki fa fb ro qu) (h : eh_tg M t v) (k : ∀ x, eh_EC s M t x → post x) : wpX_placeFor post (fp, fw, sp, us, cp, sc, qs, pl, nu, ki, fa, fb, np, ro, qu) v := by
  rcases h with ⟨h1, h2⟩ | ⟨q, h1, h2, h3⟩
  · exact br_t h2 (k _ (Or.inl ⟨h1, rfl⟩))
  · subst h2 h3
    have hq := hM q h1
    have hc : (nI q).toNatClampNeg = q := nI_clamp (by omega)
    refine br_f (fun z => eh_m1ne (k := q) (by omega) z.symm) ⟨vp_in_nI hq (by decide), ?_⟩
    rw [hc]
    exact k _ (eh_EC_p hS h1)
theorem eh_nat {post : Int32 → Prop} {t : Nat} {x : Int32} (hw : eh_wM s M) (hS : eh_XS s M K A B R Q pl nu ki fa fb ro qu) (h : eh_EC s M t x) (k : post (nI t - 1)) : wpX_numberAt post (fp, fw, sp, us, cp, sc, qs, pl, nu, ki, fa, fb, np, ro, qu) x := by
  rcases h with ⟨h1, h2⟩ | ⟨i, o, h1, h2, h3⟩
  · subst h1 h2
    exact br_f eh_m1le k
  · subst h2 h3
    have hs := hw.1
    have hMl := eh_wM_l hw
    have hil := eh_ltl h1
    have hc : (nI (s * 20 + i)).toNatClampNeg = s * 20 + i := nI_clamp (by omega)
    refine br_t (nI_pos' (by omega)) ⟨vp_in_nI (by omega) (by decide), ?_⟩
    rw [hc, (hS.1 i o h1).2.1, ← nI_pred]
    exact k
/-- the place of an object -/
theorem eh_at (hw : eh_wM s M) (hS : eh_XS s M K A B R Q pl nu ki fa fb ro qu) {o : Nat} (ho : o ∈ M) : ∃ i, M[i]? = some o ∧ pl o = nI (s * 20 + i) ∧ s * 20 + i < 40 := by
  obtain ⟨i, ei⟩ := List.mem_iff_getElem?.mp ho
  refine ⟨i, ei, (hS.1 i o ei).1, ?_⟩
  have := eh_ltl ei
  have := eh_wM_l hw
  have := hw.1
  omega
end
end
section
/-! the constructors, and the calls that only read -/
theorem eh_x69 {post : SX → Prop} {fp fw sp us cp sc qs : Int32} {pl nu ki fa fb np qu : Nat → Int32} (k : ∀ ro' : Nat → Int32, (∀ q, q < 4 → ro' q = -1) → post (fp, fw, sp, us, cp, sc, qs, pl, nu, ki, fa, fb, np, ro', qu)) : ∀ (d r : Nat) (ro : Nat → Int32), r + d = 4 → (∀ q, q < r → ro q = -1) → wX_init_69 post fp fw sp us cp sc qs (d + 1) (nI r) pl nu ki fa fb np ro qu := by
  intro d
  induction d with
  | zero =>
    intro r ro hr h
    have e : r = 4 := by omega
    subst e
    exact br_t (show (4 : Int32) ≤ nI 4 from nI_le (Nat.le_refl 4) (by decide)) (k ro h)
  | succ d ih =>
    intro r ro hr h
    have hc : (nI r).toNatClampNeg = r := nI_clamp (by omega)
    refine br_f (nI_ge (b := 4) (by omega) (by decide)) ⟨vp_in_nI (by omega) (by decide), ?_⟩
    rw [hc, eh_nbm]
    refine nm_e (nm_r (nI_1 r) (ih (r + 1) _ (by omega) (fun q hq => ?_)))
    by_cases e : q = r
    · rw [e]; exact pk_us
    · rw [pk_un e]; exact h q (by omega)
theorem i_vc0 : wpX_init (fun u => wpY_init (fun v => i_Rel 0 u v)) := by
  refine ⟨5, eh_x69 (fun ro' hro => ?_) 4 0 (fun _ => 0) rfl (fun q hq => by omega)⟩
  refine eh_in (s := 0) (M := []) (E := fun _ => false) (K := fun _ => 0) (A := fun _ => 0) (B := fun _ => 0) (R := fun _ => 0) (Q := []) (k := 0) (cp := 0) (sc := 0) (np := fun _ => 0) ?_
  refine ⟨⟨⟨by omega, List.nodup_nil, fun o ho => absurd ho List.not_mem_nil⟩, fun o ho => ⟨Nat.zero_le _, Nat.zero_le _, Nat.zero_le _⟩, fun r hr => Nat.zero_le _, List.nodup_nil, fun o ho => absurd ho List.not_mem_nil⟩, eh_set_0 (fun i h => absurd h List.not_mem_nil), eh_set_0 (fun i h => absurd h.1 List.not_mem_nil), ⟨fun i o h => absurd (List.mem_of_getElem? h) List.not_mem_nil, fun r hr => Or.inl ⟨rfl, hro r hr⟩, fun i o h => absurd (List.mem_of_getElem? h) List.not_mem_nil⟩, fun o ho => ⟨⟨fun _ => List.not_mem_nil, fun _ => rfl⟩, ⟨fun _ => rfl, fun _ => rfl⟩⟩, ⟨fun o ho => ⟨rfl, rfl, rfl⟩, fun r hr => rfl, fun i o h => absurd (List.mem_of_getElem? h) List.not_mem_nil⟩⟩
section
variable {M : List Nat} {E : Nat → Bool} {wt : Int32} {he ky ey aa bb ry qy : Nat → Int32}
theorem eh_yob {post : Int32 → Prop} (hhe : ∀ o, o < 20 → (he o = 0 ↔ o ∉ M)) (k : post (nI (eh_cn (fun i => decide (i ∈ M)) 20))) : wpY_objects post (wt, he, ky, ey, aa, bb, ry, qy) := by
  have h : ∀ d o, o + d = 20 → wY_objects_4 post wt he ky ey aa bb ry qy (d + 1) (nI (eh_cn (fun i => decide (i ∈ M)) o)) (nI o) := by
    intro d
    induction d with
    | zero =>
      intro o ho
      have e : o = 20 := by omega
      subst e
      exact br_t (show (20 : Int32) ≤ nI 20 from nI_le (Nat.le_refl 20) (by decide)) k
    | succ d ih =>
      intro o ho
      have hc : (nI o).toNatClampNeg = o := nI_clamp (by omega)
      have ih' := ih (o + 1) (by omega)
      have e1 : eh_cn (fun i => decide (i ∈ M)) (o + 1) = eh_cn (fun i => decide (i ∈ M)) o + (decide (o ∈ M)).toNat := rfl
      rw [e1] at ih'
      refine br_f (nI_ge (b := 20) (by omega) (by decide)) ⟨vp_in_nI (by omega) (by decide), ?_⟩
      rw [hc]
      refine ek_if (hhe o (by omega)) (fun h => nm_r (nI_1 o) ?_) (fun h => nm_r (nI_1 _) (nm_r (nI_1 o) ?_))
      · rw [decide_eq_false h] at ih'
        exact ih'
      · rw [decide_eq_true (Classical.not_not.mp h)] at ih'
        exact ih'
  exact ⟨21, h 20 0 rfl⟩
theorem eh_yth {post : Int32 → Prop} (hM : ∀ o, o ∈ M → o < 20) (hhe : ∀ o, o < 20 → (he o = 0 ↔ o ∉ M)) (k : ∀ x, eh_set x (fun i => i ∈ M) → post x) : wpY_there post (wt, he, ky, ey, aa, bb, ry, qy) := by
  have h : ∀ d o x, o + d = 20 → eh_set x (fun i => i < o ∧ i ∈ M) → wY_there_4 post wt he ky ey aa bb ry qy (d + 1) x (nI o) := by
    intro d
    induction d with
    | zero =>
      intro o x ho hx
      have e : o = 20 := by omega
      subst e
      exact br_t (show (20 : Int32) ≤ nI 20 from nI_le (Nat.le_refl 20) (by decide)) (k x (eh_set_c hx (fun i _ => ⟨fun h => h.2, fun h => ⟨hM i h, h⟩⟩)))
    | succ d ih =>
      intro o x ho hx
      have hc : (nI o).toNatClampNeg = o := nI_clamp (by omega)
      refine br_f (nI_ge (b := 20) (by omega) (by decide)) ⟨vp_in_nI (by omega) (by decide), ?_⟩
      rw [hc]
      refine ek_if (hhe o (by omega)) (fun h => nm_r (nI_1 o) (ih (o + 1) _ (by omega) ?_)) (fun h => nm_e (nm_r (nI_1 o) (ih (o + 1) _ (by omega) ?_)))
      · refine eh_set_c hx (fun i _ => ⟨fun g => ⟨by have := g.1; omega, g.2⟩, fun g => ⟨?_, g.2⟩⟩)
        have : i ≠ o := fun z => h (z ▸ g.2)
        have := g.1
        omega
      · refine eh_set_c (eh_set_or hx (eh_set_one (by omega))) (fun i _ => ⟨fun g => ?_, fun g => ?_⟩)
        · rcases g with g | g
          · exact ⟨by have := g.1; omega, g.2⟩
          · exact ⟨by omega, by rw [g]; exact Classical.not_not.mp h⟩
        · by_cases e : i = o
          · exact Or.inr e
          · exact Or.inl ⟨by have := g.1; omega, g.2⟩
  exact ⟨21, h 20 0 0 rfl (eh_set_0 (fun i g => by have := g.1; omega))⟩
theorem eh_ywa {post : Int32 → Prop} (hM : ∀ o, o ∈ M → o < 20) (hhe : ∀ o, o < 20 → (he o = 0 ↔ o ∉ M) ∧ (ey o = 0 ↔ E o = false)) (k : ∀ x, eh_set x (fun i => i ∈ M ∧ E i = true) → post x) : wpY_watched post (wt, he, ky, ey, aa, bb, ry, qy) := by
  have h : ∀ d o x, o + d = 20 → eh_set x (fun i => i < o ∧ i ∈ M ∧ E i = true) → wY_watched_4 post wt he ky ey aa bb ry qy (d + 1) x (nI o) := by
    intro d
    induction d with
    | zero =>
      intro o x ho hx
      have e : o = 20 := by omega
      subst e
      exact br_t (show (20 : Int32) ≤ nI 20 from nI_le (Nat.le_refl 20) (by decide)) (k x (eh_set_c hx (fun i _ => ⟨fun h => h.2, fun h => ⟨hM i h.1, h⟩⟩)))
    | succ d ih =>
      intro o x ho hx
      have hc : (nI o).toNatClampNeg = o := nI_clamp (by omega)
      have hin : vp_in (nI o) 20 := vp_in_nI (by omega) (by decide)
      have hno : ¬ (o ∈ M ∧ E o = true) → wY_watched_4 post wt he ky ey aa bb ry qy (d + 1) x (nI (o + 1)) := by
        intro h
        refine ih (o + 1) x (by omega) (eh_set_c hx (fun i _ => ⟨fun g => ⟨by have := g.1; omega, g.2⟩, fun g => ⟨?_, g.2⟩⟩))
        have : i ≠ o := fun z => h (z ▸ g.2)
        have := g.1
        omega
      refine br_f (nI_ge (b := 20) (by omega) (by decide)) ⟨hin, ?_⟩
      rw [hc]
      refine ek_if (hhe o (by omega)).1 (fun h => nm_r (nI_1 o) (hno (fun z => h z.1))) (fun h => ⟨hin, ek_if (hhe o (by omega)).2 (fun h2 => nm_r (nI_1 o) (hno (fun z => ?_))) (fun h2 => nm_e (nm_r (nI_1 o) (ih (o + 1) _ (by omega) ?_)))⟩)
      · rw [z.2] at h2
        exact absurd h2 (by decide)
      · have hE : E o = true := by
          cases hh : E o
          · exact absurd hh h2
          · rfl
        refine eh_set_c (eh_set_or hx (eh_set_one (by omega))) (fun i _ => ⟨fun g => ?_, fun g => ?_⟩)
        · rcases g with g | g
          · exact ⟨by have := g.1; omega, g.2⟩
          · exact ⟨by omega, by rw [g]; exact ⟨Classical.not_not.mp h, hE⟩⟩
        · by_cases e : i = o
          · exact Or.inr e
          · exact Or.inl ⟨by have := g.1; omega, g.2⟩
  exact ⟨21, h 20 0 0 rfl (eh_set_0 (fun i g => by have := g.1; omega))⟩
end
theorem i_vc_objects {k : Nat} {u : SX} {v : SY} (I : i_Rel k u v) (hk : k + 4 ≤ 2048) : wpX_objects (fun r => wpY_objects (fun r' => r' = r ∧ i_Rel (k + 4) u v) v) u := by
  refine eh_el (P := fun u v => wpX_objects (fun r => wpY_objects (fun r' => r' = r ∧ i_Rel (k + 4) u v) v) u) ?_ I
  intro s M E K A B R Q fp fw cp sc pl nu ki fa fb np ro qu he ky ey aa bb ry qy hF
  refine eh_ones (eh_yob (fun o ho => (hF.2.2.2.2.1 o ho).1) ⟨congrArg nI (eh_cn_c 20 (fun j hj => ?_)), eh_in hF⟩)
  have := hF.2.1 j (by omega)
  exact Bool.eq_iff_iff.mpr (decide_eq_true_iff.trans this.symm)
theorem i_vc_there {k : Nat} {u : SX} {v : SY} (I : i_Rel k u v) (hk : k + 4 ≤ 2048) : wpX_there (fun r => wpY_there (fun r' => r' = r ∧ i_Rel (k + 4) u v) v) u := by
  refine eh_el (P := fun u v => wpX_there (fun r => wpY_there (fun r' => r' = r ∧ i_Rel (k + 4) u v) v) u) ?_ I
  intro s M E K A B R Q fp fw cp sc pl nu ki fa fb np ro qu he ky ey aa bb ry qy hF
  exact eh_yth hF.1.1.2.2 (fun o ho => (hF.2.2.2.2.1 o ho).1) (fun x hx => ⟨eh_set_u hx hF.2.1, eh_in hF⟩)
theorem i_vc_watched {k : Nat} {u : SX} {v : SY} (I : i_Rel k u v) (hk : k + 4 ≤ 2048) : wpX_watched (fun r => wpY_watched (fun r' => r' = r ∧ i_Rel (k + 4) u v) v) u := by
  refine eh_el (P := fun u v => wpX_watched (fun r => wpY_watched (fun r' => r' = r ∧ i_Rel (k + 4) u v) v) u) ?_ I
  intro s M E K A B R Q fp fw cp sc pl nu ki fa fb np ro qu he ky ey aa bb ry qy hF
  exact eh_ywa hF.1.1.2.2 hF.2.2.2.2.1 (fun x hx => ⟨eh_set_u hx hF.2.2.1, eh_in hF⟩)
theorem i_vc_queued {k : Nat} {u : SX} {v : SY} (I : i_Rel k u v) (hk : k + 4 ≤ 2048) : wpX_queued (fun r => wpY_queued (fun r' => r' = r ∧ i_Rel (k + 4) u v) v) u := by
  refine eh_el (P := fun u v => wpX_queued (fun r => wpY_queued (fun r' => r' = r ∧ i_Rel (k + 4) u v) v) u) ?_ I
  intro s M E K A B R Q fp fw cp sc pl nu ki fa fb np ro qu he ky ey aa bb ry qy hF
  exact ⟨rfl, eh_in hF⟩
theorem i_vc_alive {k : Nat} {u : SX} {v : SY} (I : i_Rel k u v) (hk : k + 4 ≤ 2048) : wpX_alive (fun r u' => wpY_alive (fun r' => r' = r ∧ i_Rel (k + 4) u' v) v) u := by
  refine eh_el (P := fun u v => wpX_alive (fun r u' => wpY_alive (fun r' => r' = r ∧ i_Rel (k + 4) u' v) v) u) ?_ I
  intro s M E K A B R Q fp fw cp sc pl nu ki fa fb np ro qu he ky ey aa bb ry qy hF
  unfold wpX_alive wpY_alive
  dsimp only
  refine eh_xliving hF.1 hF.2.2.2.1 (fun r cp' sc' nu' ki' fa' fb' np' hS' hr => ?_)
  refine eh_yliving hF.2.2.2.2.2 hF.1.2.1 hF.1.2.2.1 (eh_wf_Q hF.1).1 (eh_wf_Q hF.1).2 (fun x hx => ⟨eh_set_u hx hr, eh_in ⟨hF.1, hF.2.1, hF.2.2.1, hS', hF.2.2.2.2⟩⟩)
theorem i_vc_kind {k : Nat} {u : SX} {v : SY} (I : i_Rel k u v) (hk : k + 4 ≤ 2048) (v1 : Int32) : wpX_kind (fun r => wpY_kind (fun r' => r' = r ∧ i_Rel (k + 4) u v) v v1) u v1 := by
  refine eh_el (P := fun u v => wpX_kind (fun r => wpY_kind (fun r' => r' = r ∧ i_Rel (k + 4) u v) v v1) u v1) ?_ I
  intro s M E K A B R Q fp fw cp sc pl nu ki fa fb np ro qu he ky ey aa bb ry qy hF
  unfold wpX_kind wpY_kind
  dsimp only
  obtain ⟨hf, hfp, hfw, hS, hY, hG⟩ := hF
  have hM := hf.1.2.2
  have hhe : ∀ o, o < 20 → (he o = 0 ↔ o ∉ M) := fun o ho => (hY o ho).1
  have hI := eh_in (k := k + 4) (cp := cp) (sc := sc) (np := np) ⟨hf, hfp, hfw, hS, hY, hG⟩
  by_cases h : ∃ o, o ∈ M ∧ v1 = nI o
  · obtain ⟨o, ho, e⟩ := h
    subst e
    have ho20 := hM o ho
    have hin : vp_in (nI o) 20 := vp_in_nI ho20 (by decide)
    have hc : (nI o).toNatClampNeg = o := nI_clamp (by omega)
    obtain ⟨i, ei, epl, hp⟩ := eh_at hf.1 hS ho
    refine eh_has1 hfp hM ho (br_f (by decide) ⟨hin, ?_⟩)
    rw [hc, epl, nI_clamp (n := s * 20 + i) (by omega), (hS.1 i o ei).2.2.1]
    refine ⟨vp_in_nI hp (by decide), eh_is1 hhe hM ho (br_f (by decide) ⟨hin, ?_⟩)⟩
    rw [(hG.1 o ho20).1]
    exact ⟨rfl, hI⟩
  · have hv : ∀ o, o ∈ M → v1 ≠ nI o := fun o h1 h2 => h ⟨o, h1, h2⟩
    exact eh_has0 hfp hM hv (br_t rfl (eh_is0 hhe hM hv (br_t rfl ⟨rfl, hI⟩)))
theorem i_vc_rootOf {k : Nat} {u : SX} {v : SY} (I : i_Rel k u v) (hk : k + 4 ≤ 2048) (v1 : Int32) : wpX_rootOf (fun r => wpY_rootOf (fun r' => r' = r ∧ i_Rel (k + 4) u v) v v1) u v1 := by
  refine eh_el (P := fun u v => wpX_rootOf (fun r => wpY_rootOf (fun r' => r' = r ∧ i_Rel (k + 4) u v) v v1) u v1) ?_ I
  intro s M E K A B R Q fp fw cp sc pl nu ki fa fb np ro qu he ky ey aa bb ry qy hF
  unfold wpX_rootOf wpY_rootOf
  dsimp only
  have hI := eh_in (k := k + 4) (cp := cp) (sc := sc) (np := np) hF
  obtain ⟨hf, hfp, hfw, hS, hY, hG⟩ := hF
  rcases pk_ix v1 (n := 4) (by decide) with h | h | ⟨r, hr, e⟩
  · exact eh_rt0 (Or.inl h) (br_t rfl (br_t h ⟨rfl, hI⟩))
  · have h0 : ¬ v1 < 0 := fun z => absurd (Int32.lt_of_le_of_lt h z) (by decide)
    exact eh_rt0 (Or.inr h) (br_t rfl (br_f h0 (br_t (Int32.lt_of_lt_of_le (by decide) h) ⟨rfl, hI⟩)))
  · subst e
    have hin : vp_in (nI r) 4 := vp_in_nI hr (by decide)
    have hc : (nI r).toNatClampNeg = r := nI_clamp (by omega)
    refine eh_rt1 hr (br_f (by decide) ⟨hin, ?_⟩)
    rw [hc]
    refine eh_nat hf.1 hS (hS.2.1 r hr) (br_f (nI_pos (by omega)) (br_f (show ¬ nI 3 < nI r from nI_nlt (by omega) (by decide)) ⟨hin, ?_⟩))
    rw [hG.2.1 r hr]
    exact ⟨rfl, hI⟩
theorem i_vc_field {k : Nat} {u : SX} {v : SY} (I : i_Rel k u v) (hk : k + 4 ≤ 2048) (v1 : Int32) (v2 : Int32) : wpX_field (fun r => wpY_field (fun r' => r' = r ∧ i_Rel (k + 4) u v) v v1 v2) u v1 v2 := by
  refine eh_el (P := fun u v => wpX_field (fun r => wpY_field (fun r' => r' = r ∧ i_Rel (k + 4) u v) v v1 v2) u v1 v2) ?_ I
  intro s M E K A B R Q fp fw cp sc pl nu ki fa fb np ro qu he ky ey aa bb ry qy hF
  unfold wpX_field wpY_field
  dsimp only
  have hI := eh_in (k := k + 4) (cp := cp) (sc := sc) (np := np) hF
  obtain ⟨hf, hfp, hfw, hS, hY, hG⟩ := hF
  have hM := hf.1.2.2
  have hhe : ∀ o, o < 20 → (he o = 0 ↔ o ∉ M) := fun o ho => (hY o ho).1
  by_cases h : ∃ o, o ∈ M ∧ v1 = nI o
  · obtain ⟨o, ho, e⟩ := h
    subst e
    have ho20 := hM o ho
    have hin : vp_in (nI o) 20 := vp_in_nI ho20 (by decide)
    have hc : (nI o).toNatClampNeg = o := nI_clamp (by omega)
    obtain ⟨i, ei, epl, hp⟩ := eh_at hf.1 hS ho
    have hpc : (nI (s * 20 + i)).toNatClampNeg = s * 20 + i := nI_clamp (by omega)
    have hpin : vp_in (nI (s * 20 + i)) 40 := vp_in_nI hp (by decide)
    have cell := (hS.1 i o ei).2
    refine eh_has1 hfp hM ho (br_f (by decide) ?_)
    rw [hc, epl, hpc]
    rcases pk_ix v2 (n := 2) (by decide) with h | h | ⟨w, hw, e⟩
    · refine br_t h (eh_is1 hhe hM ho (br_f (by decide) (br_f (fun z => ?_) (br_f (fun z => ?_) ⟨rfl, hI⟩))))
      · rw [z] at h; exact absurd h (by decide)
      · rw [z] at h; exact absurd h (by decide)
    · have h0 : ¬ v2 < 0 := fun z => absurd (Int32.lt_of_le_of_lt h z) (by decide)
      have h1 : ¬ v2 ≤ 1 := fun z => absurd (Int32.le_trans h z) (by decide)
      refine br_f h0 (br_f h1 (eh_is1 hhe hM ho (br_f (by decide) (br_f (fun z => ?_) (br_f (fun z => ?_) ⟨rfl, hI⟩)))))
      · rw [z] at h; exact absurd h (by decide)
      · rw [z] at h; exact absurd h (by decide)
    · have hw2 : w = 0 ∨ w = 1 := by omega
      rcases hw2 with e2 | e2
      · subst e2 e
        refine br_f (by decide) (br_t (by decide) (br_t (by decide) ⟨hin, hpin, ?_⟩))
        refine eh_nat hf.1 hS cell.2.2.1 (eh_is1 hhe hM ho (br_f (by decide) (br_t (by decide) (br_t (by decide) ⟨hin, ?_⟩))))
        rw [hc, (hG.1 o ho20).2.1]
        exact ⟨rfl, hI⟩
      · subst e2 e
        refine br_f (by decide) (br_t (by decide) (br_f (by decide) ⟨hin, hpin, ?_⟩))
        refine eh_nat hf.1 hS cell.2.2.2 (eh_is1 hhe hM ho (br_f (by decide) (br_f (by decide) (br_t (by decide) (br_f (by decide) ⟨hin, ?_⟩)))))
        rw [hc, (hG.1 o ho20).2.2]
        exact ⟨rfl, hI⟩
  · have hv : ∀ o, o ∈ M → v1 ≠ nI o := fun o h1 h2 => h ⟨o, h1, h2⟩
    exact eh_has0 hfp hM hv (br_t rfl (eh_is0 hhe hM hv (br_t rfl ⟨rfl, hI⟩)))
end
section
/-! make, point, root, watch -/
theorem eh_uid (f : Nat → Int32) (k : Nat) : upd f k (f k) = f := by
  funext j
  by_cases e : j = k
  · rw [e, pk_us]
  · rw [pk_un e]
section
variable {s : Nat} {M : List Nat} {E : Nat → Bool} {K A B R : Nat → Nat} {Q : List Nat} {fp fw us cp sc qs sp wt : Int32} {pl nu ki fa fb np ro qu he ky ey aa bb ry qy : Nat → Int32}
theorem eh_XS_ro {r t : Nat} {x : Int32} (hS : eh_XS s M K A B R Q pl nu ki fa fb ro qu) (h : eh_EC s M t x) : eh_XS s M K A B (eh_un R r t) Q pl nu ki fa fb (upd ro r x) qu := by
  refine ⟨hS.1, fun q hq => ?_, hS.2.2⟩
  by_cases e : q = r
  · rw [e, eh_us, pk_us]; exact h
  · rw [eh_ue e, pk_un e]; exact hS.2.1 q hq
theorem eh_YG_ro {r t : Nat} (hG : eh_YG K A B R Q ky aa bb ry qy) : eh_YG K A B (eh_un R r t) Q ky aa bb (upd ry r (nI t)) qy := by
  refine ⟨hG.1, fun q hq => ?_, hG.2.2⟩
  by_cases e : q = r
  · rw [e, eh_us, pk_us]
  · rw [eh_ue e, pk_un e]; exact hG.2.1 q hq
theorem eh_wf_ro {r t : Nat} (hf : eh_wf s M K A B R Q) (ht : t ≤ 20) : eh_wf s M K A B (eh_un R r t) Q := by
  refine ⟨hf.1, hf.2.1, fun q hq => ?_, hf.2.2.2⟩
  by_cases e : q = r
  · rw [e, eh_us]; exact ht
  · rw [eh_ue e]; exact hf.2.2.1 q hq
theorem eh_XS_fa {i o t : Nat} {x : Int32} (hw : eh_wM s M) (hS : eh_XS s M K A B R Q pl nu ki fa fb ro qu) (hi : M[i]? = some o) (h : eh_EC s M t x) : eh_XS s M K (eh_un A o t) B R Q pl nu ki (upd fa (s * 20 + i) x) fb ro qu := by
  refine ⟨fun j a hj => ?_, hS.2⟩
  have h1 := hS.1 j a hj
  refine ⟨h1.1, h1.2.1, h1.2.2.1, ?_, h1.2.2.2.2⟩
  by_cases e : j = i
  · rw [e, hi] at hj
    rw [e, ← Option.some.inj hj, eh_us, pk_us]
    exact h
  · have ea : a ≠ o := fun z => e (by rw [z] at hj; exact eh_inj hw.2.1 hj hi)
    rw [eh_ue ea, pk_un (by omega)]
    exact h1.2.2.2.1
theorem eh_XS_fb {i o t : Nat} {x : Int32} (hw : eh_wM s M) (hS : eh_XS s M K A B R Q pl nu ki fa fb ro qu) (hi : M[i]? = some o) (h : eh_EC s M t x) : eh_XS s M K A (eh_un B o t) R Q pl nu ki fa (upd fb (s * 20 + i) x) ro qu := by
  refine ⟨fun j a hj => ?_, hS.2⟩
  have h1 := hS.1 j a hj
  refine ⟨h1.1, h1.2.1, h1.2.2.1, h1.2.2.2.1, ?_⟩
  by_cases e : j = i
  · rw [e, hi] at hj
    rw [e, ← Option.some.inj hj, eh_us, pk_us]
    exact h
  · have ea : a ≠ o := fun z => e (by rw [z] at hj; exact eh_inj hw.2.1 hj hi)
    rw [eh_ue ea, pk_un (by omega)]
    exact h1.2.2.2.2
theorem eh_YG_aa {o t : Nat} (hG : eh_YG K A B R Q ky aa bb ry qy) : eh_YG K (eh_un A o t) B R Q ky (upd aa o (nI t)) bb ry qy := by
  refine ⟨fun j hj => ?_, hG.2⟩
  have h1 := hG.1 j hj
  refine ⟨h1.1, ?_, h1.2.2⟩
  by_cases e : j = o
  · rw [e, eh_us, pk_us]
  · rw [eh_ue e, pk_un e]; exact h1.2.1
theorem eh_YG_bb {o t : Nat} (hG : eh_YG K A B R Q ky aa bb ry qy) : eh_YG K A (eh_un B o t) R Q ky aa (upd bb o (nI t)) ry qy := by
  refine ⟨fun j hj => ?_, hG.2⟩
  have h1 := hG.1 j hj
  refine ⟨h1.1, h1.2.1, ?_⟩
  by_cases e : j = o
  · rw [e, eh_us, pk_us]
  · rw [eh_ue e, pk_un e]; exact h1.2.2
theorem eh_YG_ky {o t : Nat} (hG : eh_YG K A B R Q ky aa bb ry qy) : eh_YG (eh_un K o t) A B R Q (upd ky o (nI t)) aa bb ry qy := by
  refine ⟨fun j hj => ?_, hG.2⟩
  have h1 := hG.1 j hj
  refine ⟨?_, h1.2.1, h1.2.2⟩
  by_cases e : j = o
  · rw [e, eh_us, pk_us]
  · rw [eh_ue e, pk_un e]; exact h1.1
theorem eh_bd_a {o t : Nat} (hb : eh_bd K A B) (ht : t ≤ 20) : eh_bd K (eh_un A o t) B := by
  intro j hj
  have h1 := hb j hj
  refine ⟨h1.1, ?_, h1.2.2⟩
  by_cases e : j = o
  · rw [e, eh_us]; exact ht
  · rw [eh_ue e]; exact h1.2.1
theorem eh_bd_b {o t : Nat} (hb : eh_bd K A B) (ht : t ≤ 20) : eh_bd K A (eh_un B o t) := by
  intro j hj
  have h1 := hb j hj
  refine ⟨h1.1, h1.2.1, ?_⟩
  by_cases e : j = o
  · rw [e, eh_us]; exact ht
  · rw [eh_ue e]; exact h1.2.2
theorem eh_bd_k {o t : Nat} (hb : eh_bd K A B) (ht : t ≤ 2) : eh_bd (eh_un K o t) A B := by
  intro j hj
  have h1 := hb j hj
  refine ⟨?_, h1.2.1, h1.2.2⟩
  by_cases e : j = o
  · rw [e, eh_us]; exact ht
  · rw [eh_ue e]; exact h1.1
theorem eh_XS_mk {p q : Nat} (hw : eh_wM s M) (hS : eh_XS s M K A B R Q pl nu ki fa fb ro qu) (hp : p ∉ M) : eh_XS s (M ++ [p]) (eh_un K p q) (eh_un A p 0) (eh_un B p 0) R Q (upd pl p (nI (s * 20 + M.length))) (upd nu (s * 20 + M.length) (nI p)) (upd ki (s * 20 + M.length) (nI q)) (upd fa (s * 20 + M.length) (-1)) (upd fb (s * 20 + M.length) (-1)) ro qu := by
  have hx : eh_ext M (M ++ [p]) := ⟨[p], rfl⟩
  refine ⟨fun i o hi => ?_, fun r hr => eh_EC_x (hS.2.1 r hr) hx, hS.2.2⟩
  rcases eh_ap hi with h | ⟨h1, h2⟩
  · have hl := eh_ltl h
    have hop : o ≠ p := fun z => hp (z ▸ List.mem_of_getElem? h)
    have h1 := hS.1 i o h
    unfold eh_CE
    rw [pk_un hop, pk_un (by omega), pk_un (by omega), pk_un (by omega), pk_un (by omega), eh_ue hop, eh_ue hop, eh_ue hop]
    exact ⟨h1.1, h1.2.1, h1.2.2.1, eh_EC_x h1.2.2.2.1 hx, eh_EC_x h1.2.2.2.2 hx⟩
  · subst h1 h2
    unfold eh_CE
    rw [pk_us, pk_us, pk_us, pk_us, pk_us, eh_us, eh_us, eh_us]
    exact ⟨rfl, rfl, rfl, Or.inl ⟨rfl, rfl⟩, Or.inl ⟨rfl, rfl⟩⟩
theorem eh_xarg {G P0 : Prop} {t : Nat} {v : Int32} (hfp : eh_set fp (fun i => i ∈ M)) (hM : ∀ o, o ∈ M → o < 20) (h : eh_tg M t v) (g : G) : (v = -1 → G) ∧ (¬ v = -1 → wpX_has (fun r => ((r = 0 → P0) ∧ (¬ r = 0 → G))) (fp, fw, sp, us, cp, sc, qs, pl, nu, ki, fa, fb, np, ro, qu) v) := by
  refine br_c (fun _ => g) (fun hn => ?_)
  rcases h with ⟨h1, h2⟩ | ⟨q, h1, h2, h3⟩
  · exact absurd h2 hn
  · subst h3
    exact eh_has1 hfp hM h1 (br_f (by decide) g)
theorem eh_yarg {G P0 : Prop} {t : Nat} {v : Int32} (hhe : ∀ o, o < 20 → (he o = 0 ↔ o ∉ M)) (hM : ∀ o, o ∈ M → o < 20) (h : eh_tg M t v) (g : G) : (v = -1 → G) ∧ (¬ v = -1 → wpY_is (fun r => ((r = 0 → P0) ∧ (¬ r = 0 → G))) (wt, he, ky, ey, aa, bb, ry, qy) v) := by
  refine br_c (fun _ => g) (fun hn => ?_)
  rcases h with ⟨h1, h2⟩ | ⟨q, h1, h2, h3⟩
  · exact absurd h2 hn
  · subst h3
    exact eh_is1 hhe hM h1 (br_f (by decide) g)
theorem eh_xnew {post : Int32 → SX → Prop} {p q r : Nat} (hw : eh_wM s M) (hfp : eh_set fp (fun i => i ∈ M)) (hp : p < 20) (hpM : p ∉ M) (hlt : ∀ j, j < p → j ∈ M) (hq : q ≤ 2) (hr : r < 4) (k : post (nI p) (fp ||| ((1 : Int32) <<< (nI p &&& 31)), fw &&& (((1 : Int32) <<< (nI p &&& 31)) ^^^ (-1)), nI s, nI (M.length + 1), cp, sc, qs, upd pl p (nI (s * 20 + M.length)), upd nu (s * 20 + M.length) (nI p), upd ki (s * 20 + M.length) (nI q), upd fa (s * 20 + M.length) (-1), upd fb (s * 20 + M.length) (-1), np, upd ro r (nI (s * 20 + M.length)), qu)) : ∀ d o, o + d = p → wX_make_20 post (nI q) (nI r) fp fw (nI s) (nI M.length) cp sc qs pl nu ki fa fb np ro qu (d + 1) (nI o) := by
  intro d
  induction d with
  | zero =>
    intro o ho
    have e : o = p := by omega
    subst e
    have hMl : M.length < 20 := eh_lenlt hw.2.1 hw.2.2 hp hpM
    have hs := hw.1
    have hin : vp_in (nI o) 20 := vp_in_nI hp (by decide)
    have hc : (nI o).toNatClampNeg = o := nI_clamp (by omega)
    have hpin : vp_in (nI (s * 20 + M.length)) 40 := vp_in_nI (by omega) (by decide)
    have hpc : (nI (s * 20 + M.length)).toNatClampNeg = s * 20 + M.length := nI_clamp (by omega)
    have hrc : (nI r).toNatClampNeg = r := nI_clamp (by omega)
    refine br_f (nI_ge (b := 20) hp (by decide)) (eh_has0 hfp hw.2.2 (fun a ha e => ?_) (br_t rfl (nm_r eh_pls (nm_r (nI_1 _) (nm_e (nm_e ⟨hin, ?_⟩))))))
    · have := hw.2.2 a ha
      have e2 : o = a := (nI_eq (by omega) (by omega)).mp e
      rw [e2] at hpM
      exact hpM ha
    · rw [hc, hpc, hrc, eh_nb2 (k := s * 20 + M.length) (by omega), eh_nb2 (k := o) (by omega), eh_nb2 (k := q) (by omega), eh_nbm]
      exact nm_e ⟨hpin, nm_e ⟨hpin, nm_e ⟨hpin, nm_e ⟨hpin, nm_e ⟨vp_in_nI hr (by decide), nm_e k⟩⟩⟩⟩⟩
  | succ d ih =>
    intro o ho
    exact br_f (nI_ge (b := 20) (by omega) (by decide)) (eh_has1 hfp hw.2.2 (hlt o (by omega)) (br_f (by decide) (nm_r (nI_1 o) (ih (o + 1) (by omega)))))
theorem eh_xful {post : Int32 → SX → Prop} {x1 x2 : Int32} (hM : ∀ o, o ∈ M → o < 20) (hfp : eh_set fp (fun i => i ∈ M)) (hall : ∀ j, j < 20 → j ∈ M) (k : post (-2) (fp, fw, sp, us, cp, sc, qs, pl, nu, ki, fa, fb, np, ro, qu)) : ∀ d o, o + d = 20 → wX_make_20 post x1 x2 fp fw sp us cp sc qs pl nu ki fa fb np ro qu (d + 1) (nI o) := by
  intro d
  induction d with
  | zero =>
    intro o ho
    have e : o = 20 := by omega
    subst e
    exact br_t (show (20 : Int32) ≤ nI 20 from nI_le (Nat.le_refl 20) (by decide)) k
  | succ d ih =>
    intro o ho
    exact br_f (nI_ge (b := 20) (by omega) (by decide)) (eh_has1 hfp hM (hall o (by omega)) (br_f (by decide) (nm_r (nI_1 o) (ih (o + 1) (by omega)))))
theorem eh_ynew {post : Int32 → SY → Prop} {p q r : Nat} (hhe : ∀ o, o < 20 → (he o = 0 ↔ o ∉ M)) (hp : p < 20) (hpM : p ∉ M) (hlt : ∀ j, j < p → j ∈ M) (hr : r < 4) (k : post (nI p) (wt, upd he p 1, upd ky p (nI q), upd ey p 0, upd aa p 0, upd bb p 0, upd ry r (nI (p + 1)), qy)) : ∀ d o, o + d = p → wY_make_22 post (nI q) (nI r) wt he ky ey aa bb ry qy (d + 1) (nI o) := by
  intro d
  induction d with
  | zero =>
    intro o ho
    have e : o = p := by omega
    subst e
    have hin : vp_in (nI o) 20 := vp_in_nI hp (by decide)
    have hc : (nI o).toNatClampNeg = o := nI_clamp (by omega)
    have hrc : (nI r).toNatClampNeg = r := nI_clamp (by omega)
    refine br_f (nI_ge (b := 20) hp (by decide)) ⟨hin, ?_⟩
    rw [hc, hrc, nI_1]
    exact br_t ((hhe o hp).mpr hpM) ⟨hin, nm_e ⟨hin, nm_e ⟨hin, nm_e ⟨hin, nm_e ⟨hin, nm_e ⟨vp_in_nI hr (by decide), nm_e k⟩⟩⟩⟩⟩⟩
  | succ d ih =>
    intro o ho
    have hin : vp_in (nI o) 20 := vp_in_nI (by omega) (by decide)
    have hc : (nI o).toNatClampNeg = o := nI_clamp (by omega)
    refine br_f (nI_ge (b := 20) (by omega) (by decide)) ⟨hin, br_f ?_ (nm_r (nI_1 o) (ih (o + 1) (by omega)))⟩
    rw [hc, hhe o (by omega)]
    exact fun z => z (hlt o (by omega))
theorem eh_yful {post : Int32 → SY → Prop} {x1 x2 : Int32} (hhe : ∀ o, o < 20 → (he o = 0 ↔ o ∉ M)) (hall : ∀ j, j < 20 → j ∈ M) (k : post (-2) (wt, he, ky, ey, aa, bb, ry, qy)) : ∀ d o, o + d = 20 → wY_make_22 post x1 x2 wt he ky ey aa bb ry qy (d + 1) (nI o) := by
  intro d
  induction d with
  | zero =>
    intro o ho
    have e : o = 20 := by omega
    subst e
    exact br_t (show (20 : Int32) ≤ nI 20 from nI_le (Nat.le_refl 20) (by decide)) k
  | succ d ih =>
    intro o ho
    have hin : vp_in (nI o) 20 := vp_in_nI (by omega) (by decide)
    have hc : (nI o).toNatClampNeg = o := nI_clamp (by omega)
    refine br_f (nI_ge (b := 20) (by omega) (by decide)) ⟨hin, br_f ?_ (nm_r (nI_1 o) (ih (o + 1) (by omega)))⟩
    rw [hc, hhe o (by omega)]
    exact fun z => z (hall o (by omega))
end
theorem eh_least (M : List Nat) : ∀ n, (∀ j, j < n → j ∈ M) ∨ ∃ p, p < n ∧ p ∉ M ∧ ∀ j, j < p → j ∈ M := by
  intro n
  induction n with
  | zero => exact Or.inl (fun j hj => by omega)
  | succ n ih =>
    rcases ih with h | ⟨p, h1, h2, h3⟩
    · by_cases g : n ∈ M
      · refine Or.inl (fun j hj => ?_)
        by_cases e : j = n
        · rw [e]; exact g
        · exact h j (by omega)
      · exact Or.inr ⟨n, by omega, g, h⟩
    · exact Or.inr ⟨p, by omega, h2, h3⟩
theorem i_vc_make {k : Nat} {u : SX} {v : SY} (I : i_Rel k u v) (hk : k + 4 ≤ 2048) (v1 : Int32) (v2 : Int32) : wpX_make (fun r u' => wpY_make (fun r' v' => r' = r ∧ i_Rel (k + 4) u' v') v v1 v2) u v1 v2 := by
  refine eh_el (P := fun u v => wpX_make (fun r u' => wpY_make (fun r' v' => r' = r ∧ i_Rel (k + 4) u' v') v v1 v2) u v1 v2) ?_ I
  intro s M E K A B R Q fp fw cp sc pl nu ki fa fb np ro qu he ky ey aa bb ry qy hF
  have hI := eh_in (k := k + 4) (cp := cp) (sc := sc) (np := np) hF
  obtain ⟨hf, hfp, hfw, hS, hY, hG⟩ := hF
  have hM := hf.1.2.2
  have hhe : ∀ o, o < 20 → (he o = 0 ↔ o ∉ M) := fun o ho => (hY o ho).1
  unfold wpX_make wpY_make
  dsimp only
  rcases pk_ix v1 (n := 3) (by decide) with h | h | ⟨q, hq, e⟩
  · exact br_t h (br_t h ⟨rfl, hI⟩)
  · have h0 : ¬ v1 < 0 := fun z => absurd (Int32.lt_of_le_of_lt h z) (by decide)
    have h2 : 2 < v1 := Int32.lt_of_lt_of_le (by decide) h
    exact br_f h0 (br_t h2 (br_f h0 (br_t h2 ⟨rfl, hI⟩)))
  · subst e
    have h0 : ¬ nI q < 0 := nI_pos (by omega)
    have h2 : ¬ 2 < nI q := nI_nlt (a := 2) (by omega) (by decide)
    refine br_f h0 (br_f h2 ?_)
    rcases pk_ix v2 (n := 4) (by decide) with h | h | ⟨r, hr, e⟩
    · exact eh_rt0 (Or.inl h) (br_t rfl (br_f h0 (br_f h2 (br_t h ⟨rfl, hI⟩))))
    · have g0 : ¬ v2 < 0 := fun z => absurd (Int32.lt_of_le_of_lt h z) (by decide)
      have g3 : ¬ v2 ≤ 3 := fun z => absurd (Int32.le_trans h z) (by decide)
      exact eh_rt0 (Or.inr h) (br_t rfl (br_f h0 (br_f h2 (br_f g0 (br_f g3 ⟨rfl, hI⟩)))))
    · subst e
      have g0 : ¬ nI r < 0 := nI_pos (by omega)
      have g3 : nI r ≤ 3 := nI_le (b := 3) (by omega) (by decide)
      refine eh_rt1 hr (br_f (by decide) ?_)
      rcases eh_least M 20 with hall | ⟨p, hp, hpM, hlt⟩
      · refine ⟨21, eh_xful hM hfp hall ?_ 20 0 rfl⟩
        exact br_f h0 (br_f h2 (br_f g0 (br_t g3 ⟨21, eh_yful hhe hall ⟨rfl, hI⟩ 20 0 rfl⟩)))
      · refine ⟨p + 1, eh_xnew hf.1 hfp hp hpM hlt (by omega) hr ?_ p 0 (by omega)⟩
        refine br_f h0 (br_f h2 (br_f g0 (br_t g3 ⟨p + 1, eh_ynew hhe hp hpM hlt hr ⟨rfl, ?_⟩ p 0 (by omega)⟩)))
        have el : (M ++ [p]).length = M.length + 1 := by rw [List.length_append]; rfl
        rw [← el]
        have hx : eh_ext M (M ++ [p]) := ⟨[p], rfl⟩
        have hmem : ∀ i, i ∈ M ++ [p] ↔ i ∈ M ∨ i = p := fun i => by rw [List.mem_append, List.mem_singleton]
        refine eh_in (E := fun j => E j && decide (j ≠ p)) (K := eh_un K p q) (A := eh_un A p 0) (B := eh_un B p 0) (R := eh_un R r (p + 1)) (M := M ++ [p]) ⟨eh_wf_ro ⟨⟨hf.1.1, eh_ndc hf.1.2.1 hpM, fun o ho => ?_⟩, eh_bd_k (eh_bd_a (eh_bd_b hf.2.1 (by omega)) (by omega)) (by omega), hf.2.2.1, hf.2.2.2.1, fun o ho => eh_ext_m hx (hf.2.2.2.2 o ho)⟩ (by omega), ?_, ?_, eh_XS_ro (eh_XS_mk hf.1 hS hpM) (Or.inr ⟨M.length, p, eh_apr, rfl, rfl⟩), ?_, eh_YG_ro (eh_YG_ky (eh_YG_aa (eh_YG_bb hG)))⟩
        · rcases (hmem o).mp ho with h | h
          · exact hM o h
          · rw [h]; exact hp
        · exact eh_set_c (eh_set_or hfp (eh_set_one (by omega))) (fun i _ => (hmem i).symm)
        · refine eh_set_c (eh_set_and hfw (eh_set_not (eh_set_one (by omega)))) (fun i _ => ?_)
          show (i ∈ M ∧ E i = true) ∧ ¬ i = p ↔ i ∈ M ++ [p] ∧ (E i && decide (i ≠ p)) = true
          rw [Bool.and_eq_true, decide_eq_true_iff, hmem]
          exact ⟨fun z => ⟨Or.inl z.1.1, z.1.2, z.2⟩, fun z => ⟨⟨z.1.resolve_right z.2.2, z.2.1⟩, z.2.2⟩⟩
        · intro j hj
          show (upd he p 1 j = 0 ↔ j ∉ M ++ [p]) ∧ (upd ey p 0 j = 0 ↔ (E j && decide (j ≠ p)) = false)
          by_cases e : j = p
          · rw [e, pk_us, pk_us, hmem, decide_eq_false (fun z => z rfl), Bool.and_false]
            exact ⟨⟨fun z => absurd z (by decide), fun z => absurd (Or.inr rfl) z⟩, ⟨fun _ => rfl, fun _ => rfl⟩⟩
          · rw [pk_un e, pk_un e, hmem, decide_eq_true e, Bool.and_true]
            refine ⟨(hhe j hj).trans ⟨fun z w => w.elim z e, fun z w => z (Or.inl w)⟩, (hY j hj).2⟩
theorem i_vc_watch {k : Nat} {u : SX} {v : SY} (I : i_Rel k u v) (hk : k + 4 ≤ 2048) (v1 : Int32) : wpX_watch (fun r u' => wpY_watch (fun r' v' => r' = r ∧ i_Rel (k + 4) u' v') v v1) u v1 := by
  refine eh_el (P := fun u v => wpX_watch (fun r u' => wpY_watch (fun r' v' => r' = r ∧ i_Rel (k + 4) u' v') v v1) u v1) ?_ I
  intro s M E K A B R Q fp fw cp sc pl nu ki fa fb np ro qu he ky ey aa bb ry qy hF
  have hI := eh_in (k := k + 4) (cp := cp) (sc := sc) (np := np) hF
  obtain ⟨hf, hfp, hfw, hS, hY, hG⟩ := hF
  have hM := hf.1.2.2
  have hhe : ∀ o, o < 20 → (he o = 0 ↔ o ∉ M) := fun o ho => (hY o ho).1
  unfold wpX_watch wpY_watch
  dsimp only
  by_cases h : ∃ o, o ∈ M ∧ v1 = nI o
  · obtain ⟨o, ho, e⟩ := h
    subst e
    have ho20 := hM o ho
    have hin : vp_in (nI o) 20 := vp_in_nI ho20 (by decide)
    have hc : (nI o).toNatClampNeg = o := nI_clamp (by omega)
    refine eh_has1 hfp hM ho (br_f (by decide) (nm_e (eh_is1 hhe hM ho (br_f (by decide) ⟨hin, ?_⟩))))
    rw [hc, eh_z1]
    refine nm_e ⟨rfl, eh_in (E := fun j => E j || decide (j = o)) ⟨hf, hfp, ?_, hS, fun j hj => ⟨hhe j hj, ?_⟩, hG⟩⟩
    · refine eh_set_c (eh_set_or hfw (eh_set_one (by omega))) (fun i _ => ?_)
      show (i ∈ M ∧ E i = true) ∨ i = o ↔ i ∈ M ∧ (E i || decide (i = o)) = true
      rw [Bool.or_eq_true, decide_eq_true_iff]
      constructor
      · intro z
        rcases z with z | z
        · exact ⟨z.1, Or.inl z.2⟩
        · exact ⟨by rw [z]; exact ho, Or.inr z⟩
      · intro z
        rcases z.2 with z2 | z2
        · exact Or.inl ⟨z.1, z2⟩
        · exact Or.inr z2
    · show upd ey o 1 j = 0 ↔ (E j || decide (j = o)) = false
      by_cases e : j = o
      · rw [e, pk_us, decide_eq_true rfl, Bool.or_true]
        exact ⟨fun z => absurd z (by decide), fun z => absurd z (by decide)⟩
      · rw [pk_un e, decide_eq_false e, Bool.or_false]
        exact (hY j hj).2
  · have hv : ∀ o, o ∈ M → v1 ≠ nI o := fun o h1 h2 => h ⟨o, h1, h2⟩
    exact eh_has0 hfp hM hv (br_t rfl (eh_is0 hhe hM hv (br_t rfl ⟨rfl, hI⟩)))
theorem i_vc_root {k : Nat} {u : SX} {v : SY} (I : i_Rel k u v) (hk : k + 4 ≤ 2048) (v1 : Int32) (v2 : Int32) : wpX_root (fun r u' => wpY_root (fun r' v' => r' = r ∧ i_Rel (k + 4) u' v') v v1 v2) u v1 v2 := by
  refine eh_el (P := fun u v => wpX_root (fun r u' => wpY_root (fun r' v' => r' = r ∧ i_Rel (k + 4) u' v') v v1 v2) u v1 v2) ?_ I
  intro s M E K A B R Q fp fw cp sc pl nu ki fa fb np ro qu he ky ey aa bb ry qy hF
  have hI := eh_in (k := k + 4) (cp := cp) (sc := sc) (np := np) hF
  obtain ⟨hf, hfp, hfw, hS, hY, hG⟩ := hF
  have hM := hf.1.2.2
  have hhe : ∀ o, o < 20 → (he o = 0 ↔ o ∉ M) := fun o ho => (hY o ho).1
  unfold wpX_root wpY_root
  dsimp only
  rcases pk_ix v1 (n := 4) (by decide) with h | h | ⟨r, hr, e⟩
  · exact eh_rt0 (Or.inl h) (br_t rfl (br_t h ⟨rfl, hI⟩))
  · have h0 : ¬ v1 < 0 := fun z => absurd (Int32.lt_of_le_of_lt h z) (by decide)
    exact eh_rt0 (Or.inr h) (br_t rfl (br_f h0 (br_t (Int32.lt_of_lt_of_le (by decide) h) ⟨rfl, hI⟩)))
  · subst e
    have hin : vp_in (nI r) 4 := vp_in_nI hr (by decide)
    have hc : (nI r).toNatClampNeg = r := nI_clamp (by omega)
    have g0 : ¬ nI r < 0 := nI_pos (by omega)
    have g3 : ¬ 3 < nI r := nI_nlt (a := 3) (by omega) (by decide)
    refine eh_rt1 hr (br_f (by decide) ?_)
    rcases eh_tg_c M v2 with ⟨t, ht⟩ | ⟨h1, h2⟩
    · refine eh_xarg hfp hM ht ?_
      unfold wX_root_22
      refine eh_plf hM hS ht (fun x hx => ⟨hin, ?_⟩)
      rw [hc, (eh_EC_b hf.1 hx).2, (eh_EC_b hf.1 hx).1]
      refine nm_e (br_f g0 (br_f g3 (eh_yarg hhe hM ht ?_)))
      unfold wY_root_24
      rw [hc, eh_tg_1 ht]
      exact ⟨hin, nm_e ⟨rfl, eh_in ⟨eh_wf_ro hf (eh_tg_le hM ht), hfp, hfw, eh_XS_ro hS hx, hY, eh_YG_ro hG⟩⟩⟩
    · exact br_f h1 (eh_has0 hfp hM h2 (br_t rfl (br_f g0 (br_f g3 (br_f h1 (eh_is0 hhe hM h2 (br_t rfl ⟨rfl, hI⟩)))))))
theorem i_vc_point {k : Nat} {u : SX} {v : SY} (I : i_Rel k u v) (hk : k + 4 ≤ 2048) (v1 : Int32) (v2 : Int32) (v3 : Int32) : wpX_point (fun r u' => wpY_point (fun r' v' => r' = r ∧ i_Rel (k + 4) u' v') v v1 v2 v3) u v1 v2 v3 := by
  refine eh_el (P := fun u v => wpX_point (fun r u' => wpY_point (fun r' v' => r' = r ∧ i_Rel (k + 4) u' v') v v1 v2 v3) u v1 v2 v3) ?_ I
  intro s M E K A B R Q fp fw cp sc pl nu ki fa fb np ro qu he ky ey aa bb ry qy hF
  have hI := eh_in (k := k + 4) (cp := cp) (sc := sc) (np := np) hF
  obtain ⟨hf, hfp, hfw, hS, hY, hG⟩ := hF
  have hM := hf.1.2.2
  have hhe : ∀ o, o < 20 → (he o = 0 ↔ o ∉ M) := fun o ho => (hY o ho).1
  unfold wpX_point wpY_point
  dsimp only
  by_cases h : ∃ o, o ∈ M ∧ v1 = nI o
  · obtain ⟨o, ho, e⟩ := h
    subst e
    have ho20 := hM o ho
    have hin : vp_in (nI o) 20 := vp_in_nI ho20 (by decide)
    have hc : (nI o).toNatClampNeg = o := nI_clamp (by omega)
    obtain ⟨i, ei, epl, hp⟩ := eh_at hf.1 hS ho
    have hpc : (nI (s * 20 + i)).toNatClampNeg = s * 20 + i := nI_clamp (by omega)
    have hpin : vp_in (nI (s * 20 + i)) 40 := vp_in_nI hp (by decide)
    refine eh_has1 hfp hM ho (br_f (by decide) ?_)
    rcases eh_tg_c M v3 with ⟨t, ht⟩ | ⟨h1, h2⟩
    · refine eh_xarg hfp hM ht ?_
      have ht20 := eh_tg_le hM ht
      unfold wX_point_21
      rw [hc, epl, hpc]
      rcases pk_ix v2 (n := 2) (by decide) with h | h | ⟨w, hw, e⟩
      · refine br_t h (eh_is1 hhe hM ho (br_f (by decide) (br_f (fun z => ?_) (br_f (fun z => ?_) ⟨rfl, hI⟩))))
        · rw [z] at h; exact absurd h (by decide)
        · rw [z] at h; exact absurd h (by decide)
      · have h0 : ¬ v2 < 0 := fun z => absurd (Int32.lt_of_le_of_lt h z) (by decide)
        have h1 : ¬ v2 ≤ 1 := fun z => absurd (Int32.le_trans h z) (by decide)
        refine br_f h0 (br_f h1 (eh_is1 hhe hM ho (br_f (by decide) (br_f (fun z => ?_) (br_f (fun z => ?_) ⟨rfl, hI⟩)))))
        · rw [z] at h; exact absurd h (by decide)
        · rw [z] at h; exact absurd h (by decide)
      · have hw2 : w = 0 ∨ w = 1 := by omega
        rcases hw2 with e2 | e2
        · subst e2 e
          refine br_f (by decide) (br_t (by decide) (br_t (by decide) ⟨hin, eh_plf hM hS ht (fun x hx => ⟨hpin, ?_⟩)⟩))
          rw [(eh_EC_b hf.1 hx).2, (eh_EC_b hf.1 hx).1]
          refine nm_e (eh_is1 hhe hM ho (br_f (by decide) (br_t (by decide) ?_)))
          unfold wY_point_17
          refine eh_yarg hhe hM ht (br_t (by decide) ?_)
          unfold wY_point_53
          rw [hc, eh_tg_1 ht, eh_uid bb o]
          exact ⟨hin, nm_e (br_f (by decide) ⟨hin, hin, nm_e ⟨rfl, eh_in ⟨⟨hf.1, eh_bd_a hf.2.1 ht20, hf.2.2⟩, hfp, hfw, eh_XS_fa hf.1 hS ei hx, hY, eh_YG_aa hG⟩⟩⟩)⟩
        · subst e2 e
          refine br_f (by decide) (br_t (by decide) (br_f (by decide) ⟨hin, eh_plf hM hS ht (fun x hx => ⟨hpin, ?_⟩)⟩))
          rw [(eh_EC_b hf.1 hx).2, (eh_EC_b hf.1 hx).1]
          refine nm_e (eh_is1 hhe hM ho (br_f (by decide) (br_f (by decide) (br_t (by decide) ?_))))
          unfold wY_point_17
          refine eh_yarg hhe hM ht (br_f (by decide) ⟨hin, ?_⟩)
          unfold wY_point_53
          rw [hc, eh_tg_1 ht, eh_uid aa o]
          exact ⟨hin, nm_e (br_t (by decide) ⟨hin, nm_e ⟨rfl, eh_in ⟨⟨hf.1, eh_bd_b hf.2.1 ht20, hf.2.2⟩, hfp, hfw, eh_XS_fb hf.1 hS ei hx, hY, eh_YG_bb hG⟩⟩⟩)⟩
    · have h17 : wY_point_17 (fun r' v' => r' = 0 ∧ i_Rel (k + 4) (fp, fw, nI s, nI M.length, cp, sc, nI Q.length, pl, nu, ki, fa, fb, np, ro, qu) v') (nI o) v2 v3 (nI Q.length) he ky ey aa bb ry qy := br_f h1 (eh_is0 hhe hM h2 (br_t rfl ⟨rfl, hI⟩))
      exact br_f h1 (eh_has0 hfp hM h2 (br_t rfl (eh_is1 hhe hM ho (br_f (by decide) (br_c (fun _ => h17) (fun _ => br_c (fun _ => h17) (fun _ => ⟨rfl, hI⟩)))))))
  · have hv : ∀ o, o ∈ M → v1 ≠ nI o := fun o h1 h2 => h ⟨o, h1, h2⟩
    exact eh_has0 hfp hM hv (br_t rfl (eh_is0 hhe hM hv (br_t rfl ⟨rfl, hI⟩)))
end
section
/-! take, heldBy, clean -/
section
variable {s : Nat} {M : List Nat} {E : Nat → Bool} {K A B R : Nat → Nat} {Q D P L : List Nat} {fp fw us cp sc qs sp wt : Int32} {pl nu ki fa fb np ro qu he ky ey aa bb ry qy : Nat → Int32}
theorem eh_xtk {post : Int32 → SX → Prop} {r o : Nat} {x : Int32} (hl : D.length < 20) (h20 : ∀ a, a ∈ D → a < 20) (ho : o < 20) (hr : r < 4) (hx : pl o = x) (hxb : vp_nar .byte x = x) (k : ∀ qu' : Nat → Int32, (∀ j a, D[j]? = some a → qu' j = nI a) → post (nI o) (fp, fw, sp, us, cp, sc, nI D.length, pl, nu, ki, fa, fb, np, upd ro r x, qu')) : ∀ (d i : Nat) (qu : Nat → Int32), i + d = D.length → (∀ j a, j < i → D[j]? = some a → qu j = nI a) → (∀ j a, i ≤ j → D[j]? = some a → qu (j + 1) = nI a) → wX_take_35 post (nI r) (nI o) fp fw sp us cp sc (nI D.length) (d + 1) (nI i) pl nu ki fa fb np ro qu := by
  intro d
  induction d with
  | zero =>
    intro i qu hi hlo hhi
    have e : i = D.length := by omega
    subst e
    have hc : (nI o).toNatClampNeg = o := nI_clamp (by omega)
    have hrc : (nI r).toNatClampNeg = r := nI_clamp (by omega)
    refine br_t (nI_le (Nat.le_refl _) (by omega)) ⟨vp_in_nI ho (by decide), vp_in_nI hr (by decide), ?_⟩
    rw [hc, hrc, hx, hxb]
    exact nm_e (k qu (fun j a h => hlo j a (eh_ltl h) h))
  | succ d ih =>
    intro i qu hi hlo hhi
    have hil : i < D.length := by omega
    obtain ⟨a, ea⟩ := eh_gx hil
    have ha := h20 a (List.mem_of_getElem? ea)
    have hc : (nI i).toNatClampNeg = i := nI_clamp (by omega)
    have hc1 : (nI (i + 1)).toNatClampNeg = i + 1 := nI_clamp (by omega)
    refine br_f (nI_ge hil (by omega)) ?_
    rw [nI_1, hc, hc1, hhi i a (Nat.le_refl i) ea, eh_nb (k := a) (by omega)]
    refine ⟨vp_in_nI (by omega) (by decide), vp_in_nI (by omega) (by decide), nm_e (nm_e (ih (i + 1) _ (by omega) (fun j b hj ej => ?_) (fun j b hj ej => ?_)))⟩
    · by_cases e : j = i
      · rw [e, ea] at ej
        rw [e, pk_us, ← Option.some.inj ej]
      · rw [pk_un e]; exact hlo j b (by omega) ej
    · rw [pk_un (by omega)]; exact hhi j b (by omega) ej
theorem eh_ytk {post : Int32 → SY → Prop} {r o : Nat} (hl : D.length < 20) (ho : o < 20) (hr : r < 4) (k : ∀ qy' : Nat → Int32, (∀ j a, D[j]? = some a → qy' j = nI a) → post (nI o) (nI D.length, he, ky, ey, aa, bb, upd ry r (nI (o + 1)), qy')) : ∀ (d i : Nat) (qy : Nat → Int32), i + d = D.length → (∀ j a, j < i → D[j]? = some a → qy j = nI a) → (∀ j a, i ≤ j → D[j]? = some a → qy (j + 1) = nI a) → wY_take_37 post (nI r) (nI o) (nI D.length) (d + 1) (nI i) he ky ey aa bb ry qy := by
  intro d
  induction d with
  | zero =>
    intro i qy hi hlo hhi
    have e : i = D.length := by omega
    subst e
    have hrc : (nI r).toNatClampNeg = r := nI_clamp (by omega)
    refine br_t (nI_le (Nat.le_refl _) (by omega)) ⟨vp_in_nI hr (by decide), ?_⟩
    rw [hrc, nI_1]
    exact nm_e (k qy (fun j a h => hlo j a (eh_ltl h) h))
  | succ d ih =>
    intro i qy hi hlo hhi
    have hil : i < D.length := by omega
    obtain ⟨a, ea⟩ := eh_gx hil
    have hc : (nI i).toNatClampNeg = i := nI_clamp (by omega)
    have hc1 : (nI (i + 1)).toNatClampNeg = i + 1 := nI_clamp (by omega)
    refine br_f (nI_ge hil (by omega)) ?_
    rw [nI_1, hc, hc1, hhi i a (Nat.le_refl i) ea]
    refine ⟨vp_in_nI (by omega) (by decide), vp_in_nI (by omega) (by decide), nm_e (nm_e (ih (i + 1) _ (by omega) (fun j b hj ej => ?_) (fun j b hj ej => ?_)))⟩
    · by_cases e : j = i
      · rw [e, ea] at ej
        rw [e, pk_us, ← Option.some.inj ej]
      · rw [pk_un e]; exact hlo j b (by omega) ej
    · rw [pk_un (by omega)]; exact hhi j b (by omega) ej
theorem eh_rescue {post : SX → Prop} {c1 : Nat} (hf : eh_wf s M K A B R Q) (hQL : ∀ a, a ∈ Q → a ∈ P) (hfp : eh_set fp (fun i => i ∈ M)) (hfw : eh_set fw (fun i => i ∈ M ∧ E i = true)) (hc1 : c1 ≤ P.length) (hcl : eh_cl K A B (fun o => o ∈ P)) (hS : eh_XS s M K A B R Q pl nu ki fa fb ro qu) (hC : eh_XC s M K A B P nu ki fa fb np) (k : ∀ (fw' : Int32) (qu' : Nat → Int32) (c' : Nat) (L : List Nat) (nu' ki' fa' fb' np' : Nat → Int32), eh_set fw' (fun i => i ∈ M ∧ eh_en M E P 20 i = true) → eh_XS s M K A B R (eh_qn M E P Q 20) pl nu' ki' fa' fb' ro qu' → eh_XC s M K A B L nu' ki' fa' fb' np' → eh_ext P L → (∀ S : Nat → Prop, eh_cl K A B S → (∀ o, o ∈ P → S o) → (∀ o, o ∈ eh_qn M E P Q 20 → S o) → ∀ o, o ∈ L → S o) → (∀ o, o ∈ eh_qn M E P Q 20 → o ∈ L) → eh_cl K A B (fun o => o ∈ L) → post (fp, fw', nI s, us, nI L.length, nI c', nI (eh_qn M E P Q 20).length, pl, nu', ki', fa', fb', np', ro, qu')) : wpX_rescue post (fp, fw, nI s, us, nI P.length, nI c1, nI Q.length, pl, nu, ki, fa, fb, np, ro, qu) := by
  obtain ⟨p1, p2, p3, p4⟩ := eh_qn_p (E := E) hf.2.2.2.1 hf.2.2.2.2 hQL 20
  refine ⟨21, eh_r2 (Q := Q) hf.1 hf.2.2.2.1 hf.2.2.2.2 hQL hfp hC (fun fw' qu' hfw' hS' => ⟨(eh_qn M E P Q 20).length + 1, eh_r93 hf.1 hf.2.1 p2 (eh_len p1 (fun x hx => hf.1.2.2 x (p2 x hx))) (eh_qn M E P Q 20).length 0 c1 P nu ki fa fb np (by omega) hc1 (fun j o _ ej => ⟨(hcl o (List.mem_of_getElem? ej)).1, (hcl o (List.mem_of_getElem? ej)).2.1⟩) hS' hC (fun c' L' nu' ki' fa' fb' np' hS2 hC2 hx hbd hall _ hcl' => k fw' qu' c' L' nu' ki' fa' fb' np' hfw' hS2 hC2 hx hbd (fun o ho => ?_) hcl')⟩) 20 0 fw qu rfl hfw hS⟩
  obtain ⟨j, ej⟩ := List.mem_iff_getElem?.mp ho
  exact hall j o (Nat.zero_le j) ej
theorem eh_mend {post : SX → Prop} (hw : eh_wM s M) (hb : eh_bd K A B) (hC : eh_XC s M K A B L nu ki fa fb np) (hcl : eh_cl K A B (fun o => o ∈ L)) (hP : eh_ext P L) (k : ∀ fa' fb' : Nat → Int32, (∀ j o, L[j]? = some o → eh_EC (1 - s) L (eh_A2 K A P L o) (fa' ((1 - s) * 20 + j)) ∧ eh_EC (1 - s) L (eh_B2 K A B P L o) (fb' ((1 - s) * 20 + j))) → post (fp, fw, nI s, us, nI L.length, sc, qs, pl, nu, ki, fa', fb', np, ro, qu)) : wpX_mend post (fp, fw, nI s, us, nI L.length, sc, qs, pl, nu, ki, fa, fb, np, ro, qu) (nI P.length) := by
  have hwL : eh_wM (1 - s) L := ⟨by omega, hC.2.2.1, fun o ho => hw.2.2 o (hC.2.2.2 o ho)⟩
  exact nm_r (eh_plt hw.1) ⟨L.length + 1, eh_m14 hw hb hwL hC.2.1 hcl hP (fun i o e => (hC.1 i o e).2.1) k L.length 0 fa fb (by omega) (fun j o hj => by omega) (fun j o _ ej => (hC.1 j o ej).2.2)⟩
end
theorem eh_unn (f : Nat → Nat) (k v : Nat) : eh_un (eh_un f k v) k (f k) = f := by
  funext j
  by_cases e : j = k
  · rw [e, eh_us]
  · rw [eh_ue e, eh_ue e]
theorem eh_uuu (f : Nat → Int32) (k : Nat) (v : Int32) : upd (upd f k v) k (f k) = f := by
  funext j
  by_cases e : j = k
  · rw [e, pk_us]
  · rw [pk_un e, pk_un e]
theorem i_vc_take {k : Nat} {u : SX} {v : SY} (I : i_Rel k u v) (hk : k + 4 ≤ 2048) (v1 : Int32) : wpX_take (fun r u' => wpY_take (fun r' v' => r' = r ∧ i_Rel (k + 4) u' v') v v1) u v1 := by
  refine eh_el (P := fun u v => wpX_take (fun r u' => wpY_take (fun r' v' => r' = r ∧ i_Rel (k + 4) u' v') v v1) u v1) ?_ I
  intro s M E K A B R Q fp fw cp sc pl nu ki fa fb np ro qu he ky ey aa bb ry qy hF
  have hI := eh_in (k := k + 4) (cp := cp) (sc := sc) (np := np) hF
  obtain ⟨hf, hfp, hfw, hS, hY, hG⟩ := hF
  have hM := hf.1.2.2
  unfold wpX_take wpY_take
  dsimp only
  rcases pk_ix v1 (n := 4) (by decide) with h | h | ⟨r, hr, e⟩
  · exact eh_rt0 (Or.inl h) (br_t rfl (br_t h ⟨rfl, hI⟩))
  · have h0 : ¬ v1 < 0 := fun z => absurd (Int32.lt_of_le_of_lt h z) (by decide)
    exact eh_rt0 (Or.inr h) (br_t rfl (br_f h0 (br_t (Int32.lt_of_lt_of_le (by decide) h) ⟨rfl, hI⟩)))
  · subst e
    have g0 : ¬ nI r < 0 := nI_pos (by omega)
    have g3 : ¬ 3 < nI r := nI_nlt (a := 3) (by omega) (by decide)
    refine eh_rt1 hr (br_f (by decide) ?_)
    cases Q with
    | nil => exact br_t rfl (br_f g0 (br_f g3 (br_t rfl ⟨rfl, hI⟩)))
    | cons o D =>
      have hQl := (eh_wf_Q hf).2
      have hDl : D.length < 20 := hQl
      have hne : ¬ nI (o :: D).length = 0 := nI_ne0 (Nat.succ_pos _) (by omega)
      have hoQ : o ∈ o :: D := List.mem_cons_self
      have hoM := hf.2.2.2.2 o hoQ
      have ho20 := hM o hoM
      have hnd := List.nodup_cons.mp hf.2.2.2.1
      have hEC := eh_EC_p hS hoM
      refine br_f hne (nm_r (hS.2.2 0 o rfl) (nm_r (nI_pred D.length) ⟨D.length + 1, eh_xtk hDl (fun a ha => hM a (hf.2.2.2.2 a (List.mem_cons_of_mem o ha))) ho20 hr rfl (eh_EC_b hf.1 hEC).1 (fun qu' hqu => ?_) D.length 0 qu (by omega) (fun j a hj => by omega) (fun j a _ ej => hS.2.2 (j + 1) a ej)⟩))
      refine br_f g0 (br_f g3 (br_f hne (nm_r (hG.2.2 0 o rfl) (nm_r (nI_pred D.length) ⟨D.length + 1, eh_ytk hDl ho20 hr (fun qy' hqy => ⟨rfl, ?_⟩) D.length 0 qy (by omega) (fun j a hj => by omega) (fun j a _ ej => hG.2.2 (j + 1) a ej)⟩))))
      have hf' : eh_wf s M K A B R D := ⟨hf.1, hf.2.1, hf.2.2.1, hnd.2, fun a ha => hf.2.2.2.2 a (List.mem_cons_of_mem o ha)⟩
      have hS' : eh_XS s M K A B R D pl nu ki fa fb ro qu' := ⟨hS.1, hS.2.1, hqu⟩
      have hG' : eh_YG K A B R D ky aa bb ry qy' := ⟨hG.1, hG.2.1, hqy⟩
      exact eh_in (Q := D) ⟨eh_wf_ro hf' (show o + 1 ≤ 20 by omega), hfp, hfw, eh_XS_ro hS' hEC, hY, eh_YG_ro hG'⟩
theorem i_vc_heldBy {k : Nat} {u : SX} {v : SY} (I : i_Rel k u v) (hk : k + 4 ≤ 2048) (v1 : Int32) : wpX_heldBy (fun r u' => wpY_heldBy (fun r' v' => r' = r ∧ i_Rel (k + 4) u' v') v v1) u v1 := by
  refine eh_el (P := fun u v => wpX_heldBy (fun r u' => wpY_heldBy (fun r' v' => r' = r ∧ i_Rel (k + 4) u' v') v v1) u v1) ?_ I
  intro s M E K A B R Q fp fw cp sc pl nu ki fa fb np ro qu he ky ey aa bb ry qy hF
  have hI := eh_in (k := k + 4) (cp := cp) (sc := sc) (np := np) hF
  obtain ⟨hf, hfp, hfw, hS, hY, hG⟩ := hF
  have hM := hf.1.2.2
  have hhe : ∀ o, o < 20 → (he o = 0 ↔ o ∉ M) := fun o ho => (hY o ho).1
  unfold wpX_heldBy wpY_heldBy
  dsimp only
  by_cases h : ∃ o, o ∈ M ∧ v1 = nI o
  · obtain ⟨o, ho, e⟩ := h
    subst e
    have ho20 := hM o ho
    have hin : vp_in (nI o) 20 := vp_in_nI ho20 (by decide)
    have hc : (nI o).toNatClampNeg = o := nI_clamp (by omega)
    obtain ⟨i, ei, epl, hp⟩ := eh_at hf.1 hS ho
    have hpc : (nI (s * 20 + i)).toNatClampNeg = s * 20 + i := nI_clamp (by omega)
    have hpin : vp_in (nI (s * 20 + i)) 40 := vp_in_nI hp (by decide)
    have hf2 : eh_wf s M K (eh_un A o 0) (eh_un B o 0) R Q := ⟨hf.1, eh_bd_a (eh_bd_b hf.2.1 (by omega)) (by omega), hf.2.2⟩
    refine eh_has1 hfp hM ho (br_f (by decide) (eh_xliving hf hS (fun r cp1 sc1 nu1 ki1 fa1 fb1 np1 hS1 hr => ⟨hin, ?_⟩)))
    have cell := (hS1.1 i o ei).2
    dsimp only
    rw [hc, epl]
    refine nm_e ⟨hpin, ?_⟩
    rw [hpc, eh_nbm]
    refine nm_e ⟨hpin, nm_e ⟨hpin, nm_e ⟨hpin, nm_e ?_⟩⟩⟩
    refine eh_xliving hf2 (eh_XS_fa (t := 0) hf.1 (eh_XS_fb (t := 0) hf.1 hS1 ei (Or.inl ⟨rfl, rfl⟩)) ei (Or.inl ⟨rfl, rfl⟩)) (fun r2 cp2 sc2 nu2 ki2 fa2 fb2 np2 hS2 hr2 => ⟨hpin, ?_⟩)
    dsimp only
    rw [(eh_EC_b hf.1 cell.2.2.1).1, (eh_EC_b hf.1 cell.2.2.2).1]
    have hS3 := eh_XS_fa (t := A o) hf.1 (eh_XS_fb (t := B o) hf.1 hS2 ei cell.2.2.2) ei cell.2.2.1
    rw [eh_unn, eh_unn] at hS3
    refine nm_e ⟨hpin, nm_e (eh_is1 hhe hM ho (br_f (by decide) ?_))⟩
    refine eh_yliving hG hf.2.1 hf.2.2.1 (eh_wf_Q hf).1 (eh_wf_Q hf).2 (fun x hx => ⟨hin, nm_e ⟨hin, nm_e ⟨hin, nm_e ⟨hin, nm_e ?_⟩⟩⟩⟩)
    refine eh_yliving (eh_YG_aa (t := 0) (eh_YG_bb (t := 0) hG)) hf2.2.1 hf.2.2.1 (eh_wf_Q hf).1 (eh_wf_Q hf).2 (fun x2 hx2 => nm_e ⟨hin, nm_e ⟨hin, nm_e ?_⟩⟩)
    rw [eh_uuu, eh_uuu, eh_set_u hx hr, eh_set_u hx2 hr2]
    exact ⟨rfl, eh_in ⟨hf, hfp, hfw, hS3, hY, hG⟩⟩
  · have hv : ∀ o, o ∈ M → v1 ≠ nI o := fun o h1 h2 => h ⟨o, h1, h2⟩
    exact eh_has0 hfp hM hv (br_t rfl (eh_is0 hhe hM hv (br_t rfl ⟨rfl, hI⟩)))
theorem i_vc_clean {k : Nat} {u : SX} {v : SY} (I : i_Rel k u v) (hk : k + 4 ≤ 2048) : wpX_clean (fun r u' => wpY_clean (fun r' v' => r' = r ∧ i_Rel (k + 4) u' v') v) u := by
  refine eh_el (P := fun u v => wpX_clean (fun r u' => wpY_clean (fun r' v' => r' = r ∧ i_Rel (k + 4) u' v') v) u) ?_ I
  intro s M E K A B R Q fp fw cp sc pl nu ki fa fb np ro qu he ky ey aa bb ry qy hF
  obtain ⟨hf, hfp, hfw, hS, hY, hG⟩ := hF
  have hM := hf.1.2.2
  have hs := hf.1.1
  have hhe : ∀ o, o < 20 → (he o = 0 ↔ o ∉ M) := fun o ho => (hY o ho).1
  unfold wpX_clean wpY_clean
  dsimp only
  refine eh_cplv hf hS (fun c1 P nu1 ki1 fa1 fb1 np1 hS1 hC1 hlv1 hc1 hcl1 => ?_)
  have hst1 := eh_lv_st K A B R Q
  have hQP : ∀ a, a ∈ Q → a ∈ P := fun a ha => (hlv1 a).mpr (hst1.2 a ha)
  obtain ⟨p1, p2, p3, p4⟩ := eh_qn_p (E := E) hf.2.2.2.1 hf.2.2.2.2 hQP 20
  refine eh_rescue (E := E) hf hQP hfp hfw hc1 hcl1 hS1 hC1 (fun fw2 qu2 c2 L nu2 ki2 fa2 fb2 np2 hfw2 hS2 hC2 hPL hbd2 hall2 hcl2 => ?_)
  refine eh_mend hf.1 hf.2.1 hC2 hcl2 hPL (fun fa3 fb3 hAB => ?_)
  have hwL : eh_wM (1 - s) L := ⟨by omega, hC2.2.2.1, fun o ho => hM o (hC2.2.2.2 o ho)⟩
  have hRL : ∀ r o, r < 4 → R r = o + 1 → o ∈ L := fun r o hr e => eh_ext_m hPL ((hlv1 o).mpr (hst1.1 r o hr e))
  have hlv2 : ∀ i, i ∈ L ↔ eh_lv K A B R (eh_qn M E P Q 20) i := eh_lv_is (T := fun i => i ∈ L) hcl2 ⟨hRL, hall2⟩ (fun S hScl hT => hbd2 S hScl (fun o ho => (hlv1 o).mp ho S hScl ⟨hT.1, fun a ha => hT.2 a (eh_ext_m p4 ha)⟩) hT.2)
  have hQ2l : (eh_qn M E P Q 20).length ≤ 20 := eh_len p1 (fun x hx => hM x (p2 x hx))
  refine eh_ones ⟨5, eh_x28 hf.1 hwL hC2.2.1 hRL (fun ro4 hro4 => ⟨L.length + 1, eh_x81 (s := 1 - s) (by omega) hwL (fun i o e => (hC2.1 i o e).1) (fun fp5 pl5 hfp5 hpl5 => ?_) L.length 0 0 pl (by omega) (eh_set_0 (fun i h => by obtain ⟨j, hj, _⟩ := h; omega)) (fun j o hj => by omega)⟩) 4 0 ro rfl (fun q hq => by omega) (fun q _ h => hS2.2.1 q h)⟩
  refine eh_yliving hG hf.2.1 hf.2.2.1 (eh_wf_Q hf).1 (eh_wf_Q hf).2 (fun x1 hx1 => ⟨21, ?_⟩)
  have hx1' : eh_set x1 (fun i => i ∈ P) := eh_set_c hx1 (fun i _ => (hlv1 i).symm)
  refine eh_y7 (E := E) (Q := Q) hM hf.2.2.2.1 hf.2.2.2.2 hQP hx1' hhe (fun ey2 qy2 hey2 hqy2 => ?_) 20 0 ey qy rfl (fun o ho => (hY o ho).2) hG.2.2
  refine eh_yliving (Q := eh_qn M E P Q 20) ⟨hG.1, hG.2.1, hqy2⟩ hf.2.1 hf.2.2.1 (fun o ho => hM o (p2 o ho)) hQ2l (fun x2 hx2 => ⟨21, ?_⟩)
  have hx2' : eh_set x2 (fun i => i ∈ L) := eh_set_c hx2 (fun i _ => (hlv2 i).symm)
  refine eh_k82 (M := M) hx1' hx2' hC2.2.2.2 hf.2.1 (fun o ho => (hG.1 o ho).1) (fun he3 aa3 bb3 h3 => ⟨?_, ?_⟩) 20 0 he aa bb rfl (fun j hj => by omega) (fun j _ hj => ⟨hhe j hj, (hG.1 j hj).2⟩)
  · have e1 : eh_cn (fun i => bt fp i) 20 = eh_cn (fun i => decide (i ∈ M)) 20 := eh_cn_c 20 (fun j hj => Bool.eq_iff_iff.mpr ((hfp j (by omega)).trans decide_eq_true_iff.symm))
    have e2 := eh_cn_s (fun i => decide (i ∈ M)) (fun i => decide (i ∈ L)) 20
    have e3 : eh_cn (fun i => decide (i ∈ M) && decide (i ∈ L)) 20 = L.length := by
      rw [← eh_cn_l L hwL.2.1 hwL.2.2]
      refine eh_cn_c 20 (fun j _ => ?_)
      by_cases hj : j ∈ L
      · rw [decide_eq_true hj, decide_eq_true (hC2.2.2.2 j hj)]; rfl
      · rw [decide_eq_false hj, Bool.and_false]
    rw [e1, e2, e3, pk_sub (by omega)]
    exact congrArg nI (by omega)
  · refine eh_in (s := 1 - s) (M := L) (E := eh_en M E P 20) (K := K) (A := eh_A2 K A P L) (B := eh_B2 K A B P L) (R := R) (Q := eh_qn M E P Q 20) ⟨⟨hwL, eh_A2_le hf.2.1, hf.2.2.1, p1, hall2⟩, hfp5, ?_, ⟨fun j o ej => ⟨hpl5 j o ej, (hC2.1 j o ej).1, (hC2.1 j o ej).2.1, (hAB j o ej).1, (hAB j o ej).2⟩, hro4, hS2.2.2⟩, fun o ho => ⟨(h3 o ho).1, hey2 o ho⟩, ⟨fun o ho => ⟨(hG.1 o ho).1, (h3 o ho).2⟩, hG.2.1, hqy2⟩⟩
    exact eh_set_c (eh_set_and hfw2 hfp5) (fun i _ => ⟨fun h => ⟨h.2, h.1.2⟩, fun h => ⟨⟨hC2.2.2.2 i h.1, h.2⟩, h.1⟩⟩)
end
