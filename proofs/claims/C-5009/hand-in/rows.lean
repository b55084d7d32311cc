section
/-! rows taken from the kit's rows to paste (pk_.. and the bits family), then bits and numbers of our own -/
theorem pk_us {f : Nat → Int32} {k : Nat} {x : Int32} : upd f k x k = x := if_pos rfl
theorem pk_un {f : Nat → Int32} {k j : Nat} {x : Int32} (h : j ≠ k) : upd f k x j = f j := if_neg h
theorem pk_sub {a b : Nat} (h : b ≤ a) : nI a - nI b = nI (a - b) := by
  obtain ⟨c, rfl⟩ : ∃ c, a = c + b := ⟨a - b, by omega⟩
  rw [← nI_add, Int32.add_sub_cancel, Nat.add_sub_cancel]
theorem pk_m1 (n : Nat) : nI (n + 1) + (-1) = nI n := by
  rw [← nI_1, Int32.add_assoc, show (1 : Int32) + (-1) = 0 from rfl, Int32.add_zero]
theorem pk_mul (a b : Nat) : nI a * nI b = nI (a * b) := (Int32.ofNat_mul a b).symm
theorem pk_le {x y : Int32} {A B : Prop} (a b : Nat) (f : a ≤ b → A) (g : b < a → B) (hx : x = nI a := by rfl) (hy : y = nI b := by rfl) (ha : a < 2 ^ 31 := by omega) (hb : b < 2 ^ 31 := by omega) : (x ≤ y → A) ∧ (¬ x ≤ y → B) := by
  subst hx hy
  rw [nI_leI ha hb]
  exact ⟨f, fun z => g (by omega)⟩
theorem pk_lt {x y : Int32} {A B : Prop} (a b : Nat) (f : a < b → A) (g : b ≤ a → B) (hx : x = nI a := by rfl) (hy : y = nI b := by rfl) (ha : a < 2 ^ 31 := by omega) (hb : b < 2 ^ 31 := by omega) : (x < y → A) ∧ (¬ x < y → B) := by
  subst hx hy
  rw [nI_ltI ha hb]
  exact ⟨f, fun z => g (by omega)⟩
theorem pk_eq {x y : Int32} {A B : Prop} (a b : Nat) (f : a = b → A) (g : a ≠ b → B) (hx : x = nI a := by rfl) (hy : y = nI b := by rfl) (ha : a < 2 ^ 31 := by omega) (hb : b < 2 ^ 31 := by omega) : (x = y → A) ∧ (¬ x = y → B) := by
  subst hx hy
  rw [nI_eq ha hb]
  exact ⟨f, g⟩
theorem pk_in {x : Int32} (n N : Nat) (h : n < N) (hx : x = nI n := by rfl) (hN : N < 2 ^ 31 := by omega) : vp_in x N := by
  subst hx
  exact vp_in_nI h hN
theorem pk_cl {x : Int32} (n : Nat) (hx : x = nI n := by rfl) (h : n < 2 ^ 31 := by omega) : x.toNatClampNeg = n := by
  subst hx
  exact nI_clamp h
theorem pk_vb (z : Int32) : vp_nar .byte z.toInt8.toInt32 = z.toInt8.toInt32 := by rw [vp_nar_byte]; simp
def bt (x : Int32) (i : Nat) : Bool := x.toBitVec.getLsbD i
theorem b_ext {x y : Int32} (h : ∀ i, i < 32 → bt x i = bt y i) : x = y := Int32.toBitVec_inj.mp (BitVec.eq_of_getLsbD_eq (fun i hi => h i hi))
theorem b_or (x y : Int32) (i : Nat) : bt (x ||| y) i = (bt x i || bt y i) := by unfold bt; rw [Int32.toBitVec_or, BitVec.getLsbD_or]
theorem b_and (x y : Int32) (i : Nat) : bt (x &&& y) i = (bt x i && bt y i) := by unfold bt; rw [Int32.toBitVec_and, BitVec.getLsbD_and]
theorem b_xor (x y : Int32) (i : Nat) : bt (x ^^^ y) i = (bt x i ^^ bt y i) := by unfold bt; rw [Int32.toBitVec_xor, BitVec.getLsbD_xor]
theorem b_big {x : Int32} {i : Nat} (h : 32 ≤ i) : bt x i = false := BitVec.getLsbD_of_ge _ _ h
theorem b_m1 : ∀ i, i < 32 → bt (-1) i = true := by decide +kernel
theorem b_0 (i : Nat) : bt 0 i = false := BitVec.getLsbD_zero
theorem s_l : ∀ n, n < 32 → ((nI n &&& 31).toBitVec.smod 32).toNat = n := by decide +kernel
theorem b_shl (n : Nat) (hn : n < 32) (x : Int32) {i : Nat} (hi : i < 32) : bt (x <<< (nI n &&& 31)) i = (decide (n ≤ i) && bt x (i - n)) := by
  unfold bt
  rw [Int32.toBitVec_shiftLeft]
  show (x.toBitVec <<< ((nI n &&& 31).toBitVec.smod 32).toNat).getLsbD i = _
  rw [s_l n hn, BitVec.getLsbD_shiftLeft]
  rcases Nat.lt_or_ge i n with h | h
  · simp [h, Nat.not_le.mpr h]
  · simp [hi, h, Nat.not_lt.mpr h]
theorem b_sshr (n : Nat) (hn : n < 32) (x : Int32) {i : Nat} (hi : i < 32) : bt (x >>> (nI n &&& 31)) i = if n + i < 32 then bt x (n + i) else bt x 31 := by
  unfold bt
  rw [Int32.toBitVec_shiftRight]
  show (x.toBitVec.sshiftRight ((nI n &&& 31).toBitVec.smod 32).toNat).getLsbD i = _
  rw [s_l n hn, BitVec.getLsbD_sshiftRight, BitVec.msb_eq_getLsbD_last]
  simp [hi]
/-! bits and numbers of our own -/
def rg_i (b : Bool) : Int32 := if b = true then 1 else 0
theorem rg_i1 : rg_i true = 1 := rfl
theorem rg_i0 : rg_i false = 0 := rfl
theorem rg_one : ∀ i, i < 32 → bt 1 i = decide (i = 0) := by decide +kernel
theorem rg_bit (x : Int32) {e : Nat} (he : e < 32) : (x >>> (nI e &&& 31)) &&& 1 = rg_i (bt x e) := by
  apply b_ext
  intro i hi
  rw [b_and, b_sshr e he x hi, rg_one i hi]
  by_cases h0 : i = 0
  · subst h0
    have h1 : e + 0 < 32 := by omega
    rw [if_pos h1, Nat.add_zero]
    cases h : bt x e
    · rw [rg_i0, b_0]; rfl
    · rw [rg_i1, rg_one 0 (by omega)]; rfl
  · have h2 : decide (i = 0) = false := decide_eq_false h0
    rw [h2, Bool.and_false]
    cases h : bt x e
    · rw [rg_i0, b_0]
    · rw [rg_i1, rg_one i hi, h2]
theorem rg_set (x : Int32) {e : Nat} (he : e < 32) (i : Nat) : bt (x ||| ((1 : Int32) <<< (nI e &&& 31))) i = (bt x i || decide (i = e)) := by
  rcases Nat.lt_or_ge i 32 with h | h
  · rw [b_or, b_shl e he 1 h]
    congr 1
    by_cases hle : e ≤ i
    · rw [rg_one (i - e) (by omega), decide_eq_true hle, Bool.true_and]
      by_cases hh : i = e
      · rw [decide_eq_true hh, decide_eq_true (by omega)]
      · rw [decide_eq_false hh, decide_eq_false (by omega)]
    · rw [decide_eq_false hle, Bool.false_and, decide_eq_false (by omega)]
  · rw [b_big h, b_big h, decide_eq_false (by omega), Bool.false_or]
theorem rg_setT (x : Int32) {e : Nat} (he : e < 32) (i : Nat) : bt (x ||| ((1 : Int32) <<< (nI e &&& 31))) i = true ↔ (bt x i = true ∨ i = e) := by
  rw [rg_set x he i, Bool.or_eq_true, decide_eq_true_eq]
theorem rg_sub (a b : Int32) : (a &&& (b ^^^ (-1))) = 0 ↔ ∀ i, bt a i = true → bt b i = true := by
  constructor
  · intro h i ha
    rcases Nat.lt_or_ge i 32 with hi | hi
    · have h1 : bt (a &&& (b ^^^ (-1))) i = false := by rw [h]; exact b_0 i
      rw [b_and, b_xor, b_m1 i hi, ha] at h1
      cases hb : bt b i
      · rw [hb] at h1; exact absurd h1 (by decide)
      · rfl
    · rw [b_big hi] at ha; exact absurd ha (by decide)
  · intro h
    apply b_ext
    intro i hi
    rw [b_and, b_xor, b_m1 i hi, b_0]
    cases ha : bt a i
    · rfl
    · rw [h i ha]; rfl
theorem rg_nb8 : ∀ a, a < 128 → (nI a).toInt8.toInt32 = nI a := by decide +kernel
theorem rg_nar {a : Nat} (h : a < 128) : vp_nar .byte (nI a) = nI a := by rw [vp_nar_byte, rg_nb8 a h]
theorem rg_nar2 {a : Nat} (h : a < 128) : vp_nar .byte (nI a).toInt8.toInt32 = nI a := by rw [vp_nar_byte, rg_nb8 a h, rg_nb8 a h]
theorem rg_narM : vp_nar .byte ((-1 : Int32).toInt8.toInt32) = -1 := by rw [vp_nar_byte]; decide
theorem rg_ix (x a : Nat) : (nI x * 31) + nI a = nI (x * 31 + a) := by
  rw [show (31 : Int32) = nI 31 from rfl, pk_mul, nI_add]
theorem rg_ixc {x a : Nat} (hx : x < 3) (ha : a < 31) : ((nI x * 31) + nI a).toNatClampNeg = x * 31 + a := by
  rw [rg_ix]; exact nI_clamp (by omega)
theorem rg_ixi {x a : Nat} (hx : x < 3) (ha : a < 31) : vp_in ((nI x * 31) + nI a) 93 := by
  rw [rg_ix]; exact vp_in_nI (by omega) (by omega)
theorem rg_nM {a : Nat} (h : a < 2 ^ 31) : ¬ nI a = -1 := by
  intro e
  have h1 : (nI a).toInt = (-1 : Int32).toInt := congrArg Int32.toInt e
  rw [nI_toInt h, show (-1 : Int32).toInt = -1 from by decide] at h1
  omega
theorem rg_mneg : (-1 : Int32) < 0 := by decide
theorem rg_mnot : ¬ (0 : Int32) ≤ -1 := by decide
theorem rg_nl {x : Int32} : ¬ x < 0 ↔ 0 ≤ x := Int32.not_lt
theorem rg_nle {x : Int32} : ¬ 0 ≤ x ↔ x < 0 := Int32.not_le
def rg_bad (v : Int32) : Prop := v < 0 ∨ (¬ v < 0 ∧ 3 ≤ v)
theorem rg_rep (v : Int32) : rg_bad v ∨ ∃ j, j < 3 ∧ v = nI j := by
  by_cases h : v < 0
  · exact Or.inl (Or.inl h)
  · by_cases h3 : 3 ≤ v
    · exact Or.inl (Or.inr ⟨h, h3⟩)
    · obtain ⟨j, hj, rfl⟩ := nI_of h
      refine Or.inr ⟨j, ?_, rfl⟩
      rw [show (3 : Int32) = nI 3 from rfl, nI_leI (by decide) hj] at h3
      omega
end
section
/-! the order of two ways from the root: a way comes before its longer ones, and at the first difference the greater stamp comes first -/
def rg_lx (K : Nat → Nat) : List Nat → List Nat → Prop
  | [], [] => False
  | [], _ :: _ => True
  | _ :: _, [] => False
  | a :: l, b :: m => K b < K a ∨ (a = b ∧ rg_lx K l m)
theorem rg_lxc {K : Nat → Nat} {a b : Nat} {l m : List Nat} : rg_lx K (a :: l) (b :: m) ↔ (K b < K a ∨ (a = b ∧ rg_lx K l m)) := Iff.rfl
theorem rg_lxn {K : Nat → Nat} {l : List Nat} (h : rg_lx K l []) : False := by
  cases l with
  | nil => exact h
  | cons a l => exact h
theorem rg_ir (K : Nat → Nat) (l : List Nat) : ¬ rg_lx K l l := by
  induction l with
  | nil => exact fun h => h
  | cons a l ih =>
    intro h
    rcases rg_lxc.mp h with h | h
    · exact Nat.lt_irrefl _ h
    · exact ih h.2
theorem rg_tr {K : Nat → Nat} (a : List Nat) : ∀ b c : List Nat, rg_lx K a b → rg_lx K b c → rg_lx K a c := by
  induction a with
  | nil =>
    intro b c h1 h2
    cases c with
    | nil => exact (rg_lxn h2).elim
    | cons z c => exact True.intro
  | cons x a ih =>
    intro b c h1 h2
    cases b with
    | nil => exact (rg_lxn h1).elim
    | cons y b =>
      cases c with
      | nil => exact (rg_lxn h2).elim
      | cons z c =>
        rcases rg_lxc.mp h1 with k1 | ⟨q1, k1⟩
        · rcases rg_lxc.mp h2 with k2 | ⟨q2, k2⟩
          · exact rg_lxc.mpr (Or.inl (Nat.lt_trans k2 k1))
          · exact rg_lxc.mpr (Or.inl (by rw [← q2]; exact k1))
        · rcases rg_lxc.mp h2 with k2 | ⟨q2, k2⟩
          · exact rg_lxc.mpr (Or.inl (by rw [q1]; exact k2))
          · exact rg_lxc.mpr (Or.inr ⟨q1.trans q2, ih _ _ k1 k2⟩)
theorem rg_as {K : Nat → Nat} {a b : List Nat} (h1 : rg_lx K a b) (h2 : rg_lx K b a) : False := rg_ir K a (rg_tr a b a h1 h2)
theorem rg_to {K : Nat → Nat} (S : Nat → Prop) (hi : ∀ x y, S x → S y → K x = K y → x = y) (l : List Nat) : ∀ m : List Nat, (∀ x, x ∈ l → S x) → (∀ x, x ∈ m → S x) → l ≠ m → rg_lx K l m ∨ rg_lx K m l := by
  induction l with
  | nil =>
    intro m _ _ hne
    cases m with
    | nil => exact absurd rfl hne
    | cons b m => exact Or.inl True.intro
  | cons a l ih =>
    intro m hl hm hne
    cases m with
    | nil => exact Or.inr True.intro
    | cons b m =>
      rcases Nat.lt_trichotomy (K a) (K b) with h | h | h
      · exact Or.inr (rg_lxc.mpr (Or.inl h))
      · have e : a = b := hi a b (hl a List.mem_cons_self) (hm b List.mem_cons_self) h
        subst e
        rcases ih m (fun x hx => hl x (List.mem_cons_of_mem _ hx)) (fun x hx => hm x (List.mem_cons_of_mem _ hx)) (fun e => hne (by rw [e])) with h | h
        · exact Or.inl (rg_lxc.mpr (Or.inr ⟨rfl, h⟩))
        · exact Or.inr (rg_lxc.mpr (Or.inr ⟨rfl, h⟩))
      · exact Or.inl (rg_lxc.mpr (Or.inl h))
theorem rg_cp {K : Nat → Nat} (C : List Nat) {l m : List Nat} (h : rg_lx K l m) : rg_lx K (C ++ l) (C ++ m) := by
  induction C with
  | nil => exact h
  | cons a C ih => exact rg_lxc.mpr (Or.inr ⟨rfl, ih⟩)
theorem rg_pr {K : Nat → Nat} (l : List Nat) (c : Nat) (r : List Nat) : rg_lx K l (l ++ c :: r) := by
  have h : rg_lx K (l ++ []) (l ++ c :: r) := rg_cp l True.intro
  rw [List.append_nil] at h
  exact h
theorem rg_cg {K K' : Nat → Nat} (l : List Nat) : ∀ m : List Nat, (∀ x, x ∈ l → K' x = K x) → (∀ x, x ∈ m → K' x = K x) → rg_lx K l m → rg_lx K' l m := by
  induction l with
  | nil =>
    intro m _ _ h
    cases m with
    | nil => exact h
    | cons b m => exact True.intro
  | cons a l ih =>
    intro m hl hm h
    cases m with
    | nil => exact h
    | cons b m =>
      rcases rg_lxc.mp h with h | h
      · refine rg_lxc.mpr (Or.inl ?_)
        rw [hl a List.mem_cons_self, hm b List.mem_cons_self]
        exact h
      · exact rg_lxc.mpr (Or.inr ⟨h.1, ih m (fun x hx => hl x (List.mem_cons_of_mem _ hx)) (fun x hx => hm x (List.mem_cons_of_mem _ hx)) h.2⟩)
/-- what stands between a parent's way and its child's: a greater child's subtree -/
theorem rg_b1 {K : Nat → Nat} {e : Nat} (l : List Nat) : ∀ m : List Nat, rg_lx K l m → rg_lx K m (l ++ [e]) → ∃ c r, m = l ++ c :: r ∧ K e < K c := by
  induction l with
  | nil =>
    intro m h1 h2
    cases m with
    | nil => exact (rg_lxn h1).elim
    | cons c r =>
      rcases rg_lxc.mp h2 with h2 | h2
      · exact ⟨c, r, rfl, h2⟩
      · exact (rg_lxn h2.2).elim
  | cons x l ih =>
    intro m h1 h2
    cases m with
    | nil => exact (rg_lxn h1).elim
    | cons y m =>
      rcases rg_lxc.mp h1 with k1 | ⟨q1, k1⟩
      · rcases rg_lxc.mp h2 with k2 | ⟨q2, k2⟩
        · exact absurd k1 (Nat.lt_asymm k2)
        · rw [q2] at k1; exact absurd k1 (Nat.lt_irrefl _)
      · rcases rg_lxc.mp h2 with k2 | ⟨_, k2⟩
        · rw [q1] at k2; exact absurd k2 (Nat.lt_irrefl _)
        · obtain ⟨c, r, e1, hc⟩ := ih m k1 k2
          exact ⟨c, r, by rw [e1, q1]; rfl, hc⟩
/-- what stands behind a child: it has, on its way, one that stands behind the parent and has a smaller stamp than the child, or is the child -/
theorem rg_b2 {K : Nat → Nat} {e : Nat} (l : List Nat) : ∀ m : List Nat, (∀ x, x ∈ l → K x < K e) → rg_lx K (l ++ [e]) m → ∃ w c r, m = w ++ c :: r ∧ rg_lx K l (w ++ [c]) ∧ (K c < K e ∨ c = e) := by
  induction l with
  | nil =>
    intro m _ h
    cases m with
    | nil => exact (rg_lxn h).elim
    | cons c r =>
      refine ⟨[], c, r, rfl, True.intro, ?_⟩
      rcases rg_lxc.mp h with h | h
      · exact Or.inl h
      · exact Or.inr h.1.symm
  | cons x l ih =>
    intro m hl h
    cases m with
    | nil => exact (rg_lxn h).elim
    | cons y m =>
      rcases rg_lxc.mp h with k | ⟨q, k⟩
      · exact ⟨[], y, m, rfl, rg_lxc.mpr (Or.inl k), Or.inl (Nat.lt_trans k (hl x List.mem_cons_self))⟩
      · obtain ⟨w, c, r, e1, h1, h2⟩ := ih m (fun z hz => hl z (List.mem_cons_of_mem _ hz)) k
        exact ⟨x :: w, c, r, by rw [e1, q]; rfl, rg_lxc.mpr (Or.inr ⟨rfl, h1⟩), h2⟩
/-! counts below a number -/
def rg_cn (Q : Nat → Bool) : Nat → Nat
  | 0 => 0
  | k + 1 => rg_cn Q k + (if Q k = true then 1 else 0)
theorem rg_cnT {Q : Nat → Bool} {k : Nat} (h : Q k = true) : rg_cn Q (k + 1) = rg_cn Q k + 1 := by
  show rg_cn Q k + (if Q k = true then 1 else 0) = _
  rw [if_pos h]
theorem rg_cnF {Q : Nat → Bool} {k : Nat} (h : Q k = false) : rg_cn Q (k + 1) = rg_cn Q k := by
  show rg_cn Q k + (if Q k = true then 1 else 0) = _
  rw [h]
  rfl
theorem rg_cnle (Q : Nat → Bool) (k : Nat) : rg_cn Q k ≤ k := by
  induction k with
  | zero => exact Nat.le_refl _
  | succ k ih =>
    cases h : Q k
    · rw [rg_cnF h]; omega
    · rw [rg_cnT h]; omega
theorem rg_cneq {Q R : Nat → Bool} (k : Nat) (h : ∀ j, j < k → Q j = R j) : rg_cn Q k = rg_cn R k := by
  induction k with
  | zero => rfl
  | succ k ih =>
    have h1 := ih (fun j hj => h j (by omega))
    have h2 := h k (by omega)
    cases h3 : R k
    · rw [rg_cnF (h2.trans h3), rg_cnF h3, h1]
    · rw [rg_cnT (h2.trans h3), rg_cnT h3, h1]
theorem rg_cn0 (k : Nat) : rg_cn (fun _ => false) k = 0 := by
  induction k with
  | zero => rfl
  | succ k ih => rw [rg_cnF rfl, ih]
theorem rg_cnadd {Q R : Nat → Bool} {a : Nat} (ha : Q a = false) (hR : ∀ j, R j = (Q j || decide (j = a))) (k : Nat) : rg_cn R k = rg_cn Q k + (if a < k then 1 else 0) := by
  induction k with
  | zero => rfl
  | succ k ih =>
    by_cases hk : k = a
    · subst hk
      have h1 : R k = true := by rw [hR, decide_eq_true rfl, Bool.or_true]
      rw [rg_cnT h1, rg_cnF ha, ih, if_neg (Nat.lt_irrefl k), if_pos (Nat.lt_succ_self k)]
    · have h1 : R k = Q k := by rw [hR, decide_eq_false hk, Bool.or_false]
      have h2 : (if a < k + 1 then 1 else 0) = (if a < k then 1 else 0) := by
        by_cases h3 : a < k
        · rw [if_pos h3, if_pos (by omega)]
        · rw [if_neg h3, if_neg (by omega)]
      rw [h2]
      cases h3 : Q k
      · rw [rg_cnF (h1.trans h3), rg_cnF h3, ih]
      · rw [rg_cnT (h1.trans h3), rg_cnT h3, ih]; omega
theorem rg_cnl {n : Nat} (l : List Nat) (hd : l.Nodup) (hn : ∀ x, x ∈ l → x < n) : rg_cn (fun e => decide (e ∈ l)) n = l.length := by
  induction l with
  | nil =>
    rw [rg_cneq (R := fun _ => false) n (fun j _ => decide_eq_false List.not_mem_nil), rg_cn0]
    rfl
  | cons a l ih =>
    have hd2 := List.nodup_cons.mp hd
    have h1 := ih hd2.2 (fun x hx => hn x (List.mem_cons_of_mem _ hx))
    have h2 := rg_cnadd (Q := fun e => decide (e ∈ l)) (R := fun e => decide (e ∈ a :: l)) (a := a) (decide_eq_false hd2.1) (fun j => by
      show decide (j ∈ a :: l) = (decide (j ∈ l) || decide (j = a))
      by_cases hj : j = a
      · rw [decide_eq_true hj, Bool.or_true]; exact decide_eq_true (by rw [hj]; exact List.mem_cons_self)
      · rw [decide_eq_false hj, Bool.or_false]
        by_cases hj2 : j ∈ l
        · rw [decide_eq_true hj2]; exact decide_eq_true (List.mem_cons_of_mem _ hj2)
        · rw [decide_eq_false hj2]; exact decide_eq_false (fun h => (List.mem_cons.mp h).elim hj hj2)) n
    rw [h2, h1, if_pos (hn a List.mem_cons_self)]
    rfl
theorem rg_lenle {n : Nat} (l : List Nat) (hd : l.Nodup) (hn : ∀ x, x ∈ l → x < n) : l.length ≤ n := by
  rw [← rg_cnl l hd hn]
  exact rg_cnle _ n
end
section
/-! the tree of elements: P e is the way from the root down to e (30 stands for the beginning) -/
def rg_T (n : Nat) (E : Nat → Prop) (pa K : Nat → Nat) (P : Nat → List Nat) : Prop :=
  n ≤ 30 ∧ P 30 = [] ∧
  (∀ e, e < n → E e → P e = P (pa e) ++ [e] ∧ (pa e = 30 ∨ (pa e < e ∧ E (pa e) ∧ K (pa e) < K e))) ∧
  (∀ e f, e < n → f < n → E e → E f → K e = K f → e = f)
section
variable {n : Nat} {E : Nat → Prop} {pa K : Nat → Nat} {P : Nat → List Nat}
theorem rg_t1 (T : rg_T n E pa K P) (e : Nat) : e < n → E e → ∀ A z B, P e = A ++ z :: B → z ≤ e ∧ E z ∧ P z = A ++ [z] ∧ (z = e ∨ K z < K e) := by
  induction e using Nat.strongRecOn with
  | ind e ih =>
    intro he hE A z B hP
    obtain ⟨h1, h2⟩ := T.2.2.1 e he hE
    rcases List.eq_nil_or_concat B with hB | ⟨B', b, hB⟩
    · subst hB
      have h4 := List.append_inj' (h1.symm.trans hP) rfl
      have h5 : e = z := (List.cons.inj h4.2).1
      subst h5
      exact ⟨Nat.le_refl _, hE, hP, Or.inl rfl⟩
    · rw [List.concat_eq_append] at hB
      subst hB
      have h3 : P (pa e) ++ [e] = (A ++ z :: B') ++ [b] := by
        rw [← h1, hP, List.append_assoc]
        rfl
      have h4 := List.append_inj' h3 rfl
      rcases h2 with h2 | ⟨h2, h5, h6⟩
      · exfalso
        have h7 := h4.1
        rw [h2, T.2.1] at h7
        exact absurd (congrArg List.length h7) (by simp)
      · obtain ⟨g1, g2, g3, g4⟩ := ih (pa e) h2 (by omega) h5 A z B' h4.1
        refine ⟨by omega, g2, g3, Or.inr ?_⟩
        rcases g4 with g4 | g4
        · rw [g4]; exact h6
        · exact Nat.lt_trans g4 h6
theorem rg_t2 (T : rg_T n E pa K P) {e z : Nat} (he : e < n) (hE : E e) (hz : z ∈ P e) : z ≤ e ∧ E z ∧ (z = e ∨ K z < K e) ∧ ∃ B, P e = P z ++ B := by
  obtain ⟨A, B, h⟩ := List.append_of_mem hz
  obtain ⟨h1, h2, h3, h4⟩ := rg_t1 T e he hE A z B h
  exact ⟨h1, h2, h4, B, by rw [h3, h, List.append_assoc]; rfl⟩
theorem rg_self (T : rg_T n E pa K P) {e : Nat} (he : e < n) (hE : E e) : e ∈ P e := by
  rw [(T.2.2.1 e he hE).1]
  exact List.mem_append_right _ List.mem_cons_self
theorem rg_pne (T : rg_T n E pa K P) {e f : Nat} (he : e < n) (hE : E e) (hf : f < n) (hF : E f) (h : P e = P f) : e = f := by
  have h1 := rg_self T he hE
  have h2 := rg_self T hf hF
  rw [h] at h1
  rw [← h] at h2
  have := (rg_t2 T hf hF h1).1
  have := (rg_t2 T he hE h2).1
  omega
theorem rg_tot (T : rg_T n E pa K P) {e f : Nat} (he : e < n) (hE : E e) (hf : f < n) (hF : E f) (h : e ≠ f) : rg_lx K (P e) (P f) ∨ rg_lx K (P f) (P e) := by
  refine rg_to (fun z => z < n ∧ E z) (fun x y hx hy => T.2.2.2 x y hx.1 hy.1 hx.2 hy.2) (P e) (P f) ?_ ?_ (fun hh => h (rg_pne T he hE hf hF hh))
  · intro x hx
    obtain ⟨h1, h2, _⟩ := rg_t2 T he hE hx
    exact ⟨by omega, h2⟩
  · intro x hx
    obtain ⟨h1, h2, _⟩ := rg_t2 T hf hF hx
    exact ⟨by omega, h2⟩
/-- an ancestor comes first -/
theorem rg_anc (T : rg_T n E pa K P) {a b : Nat} (hb : b < n) (hB : E b) (h : a ∈ P (pa b)) : rg_lx K (P a) (P b) := by
  obtain ⟨h1, h2⟩ := T.2.2.1 b hb hB
  rcases h2 with h2 | ⟨h2, h3, h4⟩
  · rw [h2, T.2.1] at h
    exact absurd h List.not_mem_nil
  · obtain ⟨_, _, _, C, hC⟩ := rg_t2 T (by omega) h3 h
    rw [h1, hC, List.append_assoc]
    cases C with
    | nil => exact rg_pr _ _ _
    | cons c C => exact rg_pr _ _ _
theorem rg_notself (T : rg_T n E pa K P) {b : Nat} (hb : b < n) (hB : E b) : ¬ b ∈ P (pa b) := fun h => rg_ir K _ (rg_anc T hb hB h)
theorem rg_mem (T : rg_T n E pa K P) {a b : Nat} (hb : b < n) (hB : E b) : a ∈ P b ↔ (a ∈ P (pa b) ∨ a = b) := by
  rw [(T.2.2.1 b hb hB).1, List.mem_append, List.mem_singleton]
/-- two elements neither of which descends from the other: where their ways part, the greater stamp comes first -/
theorem rg_part (T : rg_T n E pa K P) {a b x y : Nat} (ha : a < n) (hA : E a) (hb : b < n) (hB : E b)
    (hx : x ∈ P a) (hx2 : ¬ x ∈ P b) (hx3 : pa x = 30 ∨ pa x ∈ P b) (hy : y ∈ P b) (hy2 : ¬ y ∈ P a) (hy3 : pa y = 30 ∨ pa y ∈ P a) (hK : K y < K x) : rg_lx K (P a) (P b) := by
  obtain ⟨x1, x2, _, Bx, x4⟩ := rg_t2 T ha hA hx
  obtain ⟨y1, y2, _, By, y4⟩ := rg_t2 T hb hB hy
  have px := (T.2.2.1 x (by omega) x2).1
  have py := (T.2.2.1 y (by omega) y2).1
  rw [px, List.append_assoc] at x4
  rw [py, List.append_assoc] at y4
  have qx : ∃ C, P b = P (pa x) ++ C := by
    rcases hx3 with h | h
    · exact ⟨P b, by rw [h, T.2.1]; rfl⟩
    · exact (rg_t2 T hb hB h).2.2.2
  have qy : ∃ C, P a = P (pa y) ++ C := by
    rcases hy3 with h | h
    · exact ⟨P a, by rw [h, T.2.1]; rfl⟩
    · exact (rg_t2 T ha hA h).2.2.2
  obtain ⟨Cx, qx⟩ := qx
  obtain ⟨Cy, qy⟩ := qy
  have e : P (pa x) = P (pa y) := by
    rcases List.append_eq_append_iff.mp (qx.symm.trans y4) with ⟨as, h1, h2⟩ | ⟨bs, h1, h2⟩
    · cases as with
      | nil => rw [h1, List.append_nil]
      | cons c as =>
        exfalso
        have h3 : P (pa x) ++ ([x] ++ Bx) = P (pa x) ++ (c :: as ++ Cy) := by rw [← x4, qy, h1, List.append_assoc]
        have h4 := List.append_cancel_left h3
        have h5 : x = c := (List.cons.inj h4).1
        apply hx2
        rw [y4, h1, h5]
        simp
    · cases bs with
      | nil => rw [h1, List.append_nil]
      | cons c bs =>
        exfalso
        have h5 : y = c := (List.cons.inj h2).1
        apply hy2
        rw [x4, h1, h5]
        simp
  rw [x4, y4, e]
  exact rg_cp _ (rg_lxc.mpr (Or.inl hK))
/-! putting an element behind its parent -/
theorem rg_stop (T : rg_T n E pa K P) {e f : Nat} (he : e < n) (hE : E e) (hf : f < n) (hF : E f) (hK : K f < K e) (hp : rg_lx K (P (pa e)) (P f)) : rg_lx K (P e) (P f) := by
  rcases rg_tot T he hE hf hF (fun h => by rw [h] at hK; exact Nat.lt_irrefl _ hK) with h | h
  · exact h
  · exfalso
    rw [(T.2.2.1 e he hE).1] at h
    obtain ⟨c, r, h1, h2⟩ := rg_b1 _ _ hp h
    have h3 : c ∈ P f := by rw [h1]; simp
    obtain ⟨_, _, h4, _⟩ := rg_t2 T hf hF h3
    rcases h4 with h4 | h4
    · rw [h4] at h2; omega
    · omega
theorem rg_go (T : rg_T n E pa K P) {e f : Nat} (he : e < n) (hE : E e) (hf : f < n) (hF : E f) (hne : ¬ e ∈ P f) (hall : ∀ c, c ∈ P f → rg_lx K (P (pa e)) (P c) → K e < K c) : rg_lx K (P f) (P e) := by
  rcases rg_tot T he hE hf hF (fun h => by rw [h] at hne; exact hne (rg_self T hf hF)) with h | h
  · exfalso
    obtain ⟨h1, h2⟩ := T.2.2.1 e he hE
    rw [h1] at h
    have hl : ∀ x, x ∈ P (pa e) → K x < K e := by
      intro x hx
      rcases h2 with h2 | ⟨h2, h3, h4⟩
      · rw [h2, T.2.1] at hx
        exact absurd hx List.not_mem_nil
      · obtain ⟨_, _, h5, _⟩ := rg_t2 T (by omega) h3 hx
        rcases h5 with h5 | h5
        · rw [h5]; exact h4
        · omega
    obtain ⟨w, c, r, g1, g2, g3⟩ := rg_b2 _ _ hl h
    have hc : c ∈ P f := by rw [g1]; simp
    obtain ⟨_, _, g4, _⟩ := rg_t1 T f hf hF w c r g1
    rw [← g4] at g2
    rcases g3 with g3 | g3
    · have := hall c hc g2
      omega
    · rw [g3] at hc; exact hne hc
  · exact h
end
end
section
/-! a chain in the array of links: each cell holds the next one, 30 at the end -/
def rg_hd : List Nat → Nat
  | [] => 30
  | b :: _ => b
def rg_Cs (nx : Nat → Int32) (x : Nat) : List Nat → Prop
  | [] => True
  | b :: l => nx (x * 31 + b) = nI (rg_hd l) ∧ rg_Cs nx x l
theorem rg_Cc {nx : Nat → Int32} {x b : Nat} {l : List Nat} : rg_Cs nx x (b :: l) ↔ (nx (x * 31 + b) = nI (rg_hd l) ∧ rg_Cs nx x l) := Iff.rfl
theorem rg_Cfr {nx nx' : Nat → Int32} {x : Nat} (l : List Nat) : (∀ c, c ∈ l → nx' (x * 31 + c) = nx (x * 31 + c)) → rg_Cs nx x l → rg_Cs nx' x l := by
  induction l with
  | nil => exact fun _ _ => True.intro
  | cons b l ih =>
    intro h hc
    exact rg_Cc.mpr ⟨(h b List.mem_cons_self).trans (rg_Cc.mp hc).1, ih (fun c hc' => h c (List.mem_cons_of_mem _ hc')) (rg_Cc.mp hc).2⟩
theorem rg_Csuf {nx : Nat → Int32} {x : Nat} (A B : List Nat) : rg_Cs nx x (A ++ B) → rg_Cs nx x B := by
  induction A with
  | nil => exact fun h => h
  | cons a A ih => exact fun h => ih (rg_Cc.mp h).2
theorem rg_Cins {nx : Nat → Int32} {x b e : Nat} (B A : List Nat) : rg_Cs nx x (A ++ b :: B) → (A ++ b :: B).Nodup → ¬ e ∈ A ++ b :: B → rg_Cs (upd (upd nx (x * 31 + e) (nI (rg_hd B))) (x * 31 + b) (nI e)) x (A ++ b :: e :: B) := by
  induction A with
  | nil =>
    intro h hd he
    have h1 : e ≠ b := fun hh => he (by rw [hh]; exact List.mem_cons_self)
    have h2 := List.nodup_cons.mp hd
    refine rg_Cc.mpr ⟨pk_us, rg_Cc.mpr ⟨?_, ?_⟩⟩
    · rw [pk_un (by omega), pk_us]
    · refine rg_Cfr B ?_ (rg_Cc.mp h).2
      intro c hc
      have h3 : c ≠ b := fun hh => h2.1 (by rw [← hh]; exact hc)
      have h4 : c ≠ e := fun hh => he (by rw [← hh]; exact List.mem_cons_of_mem _ hc)
      rw [pk_un (by omega), pk_un (by omega)]
  | cons a A ih =>
    intro h hd he
    have h2 := List.nodup_cons.mp hd
    have h3 : a ≠ e := fun hh => he (by rw [← hh]; exact List.mem_cons_self)
    have h4 : a ≠ b := fun hh => h2.1 (by rw [hh]; exact List.mem_append_right _ List.mem_cons_self)
    refine rg_Cc.mpr ⟨?_, ih (rg_Cc.mp h).2 h2.2 (fun hh => he (List.mem_cons_of_mem _ hh))⟩
    rw [pk_un (by omega), pk_un (by omega)]
    refine (rg_Cc.mp h).1.trans (congrArg nI ?_)
    cases A with
    | nil => rfl
    | cons c A => rfl
section
variable {n : Nat} {E : Nat → Prop} {pa K : Nat → Nat} {P : Nat → List Nat}
def rg_J (K : Nat → Nat) (P : Nat → List Nat) (p e : Nat) (A B : List Nat) : Prop :=
  (∀ g, g ∈ A → rg_lx K (P g) (P e)) ∧ (∀ c, c ∈ A → rg_lx K (P p) (P c) → K e < K c) ∧ (∀ g, g ∈ B → rg_lx K (P p) (P g))
/-- a list of elements that holds every element's parent -/
def rg_Lc (n : Nat) (E : Nat → Prop) (pa : Nat → Nat) (l : List Nat) : Prop := ∀ f, f ∈ l → f < n ∧ E f ∧ (pa f = 30 ∨ pa f ∈ l)
theorem rg_Lcl (T : rg_T n E pa K P) {l : List Nat} (C : rg_Lc n E pa l) (f : Nat) : f ∈ l → ∀ c, c ∈ P f → c ∈ l := by
  induction f using Nat.strongRecOn with
  | ind f ih =>
    intro hf c hc
    obtain ⟨h1, h2, h3⟩ := C f hf
    rcases (rg_mem T h1 h2).mp hc with h4 | h4
    · rcases h3 with h3 | h3
      · rw [h3, T.2.1] at h4
        exact absurd h4 List.not_mem_nil
      · refine ih (pa f) ?_ h3 c h4
        rcases (T.2.2.1 f h1 h2).2 with h5 | h5
        · rw [h5, T.2.1] at h4
          exact absurd h4 List.not_mem_nil
        · exact h5.1
    · rw [h4]; exact hf
theorem rg_Rnd {K : Nat → Nat} {P : Nat → List Nat} {l : List Nat} (h : l.Pairwise (fun a b => rg_lx K (P a) (P b))) : l.Nodup :=
  List.Pairwise.imp (S := fun a b => a ≠ b) (fun {a b} hr (he : a = b) => rg_ir K (P b) (by rw [he] at hr; exact hr)) h
theorem rg_J0 (T : rg_T n E pa K P) {e : Nat} {A B : List Nat} (he : e < n) (hE : E e) (R : (A ++ pa e :: B).Pairwise (fun a b => rg_lx K (P a) (P b))) : rg_J K P (pa e) e (A ++ [pa e]) B := by
  have R1 := List.pairwise_append.mp R
  have R2 := List.pairwise_cons.mp R1.2.1
  have hpe : rg_lx K (P (pa e)) (P e) := by
    rw [(T.2.2.1 e he hE).1]
    exact rg_pr _ _ _
  refine ⟨fun g hg => ?_, fun c hc hl => ?_, R2.1⟩
  · rcases List.mem_append.mp hg with h | h
    · exact rg_tr _ _ _ (R1.2.2 g h _ List.mem_cons_self) hpe
    · rw [List.mem_singleton.mp h]; exact hpe
  · rcases List.mem_append.mp hc with h | h
    · exact (rg_as hl (R1.2.2 c h _ List.mem_cons_self)).elim
    · rw [List.mem_singleton.mp h] at hl; exact (rg_ir K _ hl).elim
theorem rg_Jgo (T : rg_T n E pa K P) {e f : Nat} {l A B : List Nat} (he : e < n) (hE : E e) (C : rg_Lc n E pa l) (hM : 30 :: l = A ++ f :: B)
    (R : (A ++ f :: B).Pairwise (fun a b => rg_lx K (P a) (P b))) (hel : ¬ e ∈ l) (hf : f ∈ l) (J : rg_J K P (pa e) e A (f :: B)) (hK : K e < K f) : rg_J K P (pa e) e (A ++ [f]) B := by
  have R1 := List.pairwise_append.mp R
  have R2 := List.pairwise_cons.mp R1.2.1
  have hF := C f hf
  have key : rg_lx K (P f) (P e) := by
    refine rg_go T he hE hF.1 hF.2.1 (fun h => hel (rg_Lcl T C f hf e h)) ?_
    intro c hc hl
    rcases (rg_mem T hF.1 hF.2.1).mp hc with h | h
    · have h1 := rg_anc T hF.1 hF.2.1 h
      have h2 : c ∈ 30 :: l := List.mem_cons_of_mem _ (rg_Lcl T C f hf c hc)
      rw [hM] at h2
      rcases List.mem_append.mp h2 with h3 | h3
      · exact J.2.1 c h3 hl
      · rcases List.mem_cons.mp h3 with h4 | h4
        · rw [h4]; exact hK
        · exact (rg_as h1 (R2.1 c h4)).elim
    · rw [h]; exact hK
  refine ⟨fun g hg => ?_, fun c hc hl => ?_, fun g hg => J.2.2 g (List.mem_cons_of_mem _ hg)⟩
  · rcases List.mem_append.mp hg with h | h
    · exact J.1 g h
    · rw [List.mem_singleton.mp h]; exact key
  · rcases List.mem_append.mp hc with h | h
    · exact J.2.1 c h hl
    · rw [List.mem_singleton.mp h]; exact hK
theorem rg_Jend0 {e : Nat} {A : List Nat} (R : A.Pairwise (fun a b => rg_lx K (P a) (P b))) {p : Nat} (J : rg_J K P p e A []) : (A ++ [e]).Pairwise (fun a b => rg_lx K (P a) (P b)) := by
  refine List.pairwise_append.mpr ⟨R, List.pairwise_singleton _ _, fun a ha b hb => ?_⟩
  rw [List.mem_singleton.mp hb]
  exact J.1 a ha
theorem rg_Jend1 (T : rg_T n E pa K P) {e f : Nat} {A B : List Nat} (he : e < n) (hE : E e) (hf : f < n) (hF : E f)
    (R : (A ++ f :: B).Pairwise (fun a b => rg_lx K (P a) (P b))) (J : rg_J K P (pa e) e A (f :: B)) (hK : K f < K e) : (A ++ e :: f :: B).Pairwise (fun a b => rg_lx K (P a) (P b)) := by
  have R1 := List.pairwise_append.mp R
  have R2 := List.pairwise_cons.mp R1.2.1
  have h1 : rg_lx K (P e) (P f) := rg_stop T he hE hf hF hK (J.2.2 f List.mem_cons_self)
  refine List.pairwise_append.mpr ⟨R1.1, List.pairwise_cons.mpr ⟨fun g hg => ?_, R1.2.1⟩, fun a ha b hb => ?_⟩
  · rcases List.mem_cons.mp hg with h | h
    · rw [h]; exact h1
    · exact rg_tr _ _ _ h1 (R2.1 g h)
  · rcases List.mem_cons.mp hb with h | h
    · rw [h]; exact J.1 a ha
    · exact R1.2.2 a ha b h
end
end
section
/-! what both states hold: the events, and for each replica what it knows -/
def rg_lk (p : Nat) : Int32 := if p = 30 then -1 else nI p
def rg_K (tm wh : Nat → Nat) (e : Nat) : Nat := 3 * tm e + wh e
def rg_up {α : Type} (f : Nat → α) (k : Nat) (v : α) : Nat → α := fun j => if j = k then v else f j
theorem rg_ups {α : Type} {f : Nat → α} {k : Nat} {v : α} : rg_up f k v k = v := if_pos rfl
theorem rg_upn {α : Type} {f : Nat → α} {k j : Nat} {v : α} (h : j ≠ k) : rg_up f k v j = f j := if_neg h
theorem rg_same {f : Nat → Int32} {k : Nat} : upd f k (f k) = f := by
  funext j
  by_cases h : j = k
  · rw [h, pk_us]
  · rw [pk_un h]
theorem rg_same2 {f : Nat → Int32} {k : Nat} {v : Int32} (h : v = f k) : upd f k v = f := by rw [h]; exact rg_same
def rg_EV (n : Nat) (sy ot tX mk up lk tY : Nat → Int32) (pa tm wh : Nat → Nat) (P : Nat → List Nat) : Prop :=
  n ≤ 30 ∧ P 30 = [] ∧
  (∀ e, e < n → ot e = nI (pa e) ∧ lk e = rg_lk (pa e) ∧ mk e = nI (wh e) ∧ wh e < 3 ∧ (pa e = 30 ∨ (pa e < e ∧ 0 ≤ sy (pa e) ∧ bt (up e) (pa e) = true)) ∧ (∀ i, bt (up e) i = true → i < e)) ∧
  (∀ e, e < n → ¬ 0 ≤ sy e → pa e ≠ 30) ∧
  (∀ e, e < n → 0 ≤ sy e → tX e = nI (tm e) ∧ tY e = nI (tm e) ∧ tm e ≤ n ∧ (pa e ≠ 30 → tm (pa e) < tm e) ∧ P e = P (pa e) ++ [e]) ∧
  (∀ e f, e < n → f < n → 0 ≤ sy e → 0 ≤ sy f → tm e = tm f → wh e = wh f → e = f)
def rg_RX (n : Nat) (sy up : Nat → Int32) (pa tm K : Nat → Nat) (P : Nat → List Nat) (kx dx : Int32) (c : Nat) (l : List Nat) : Prop :=
  c ≤ n ∧ (∀ i, bt kx i = true → i < n) ∧ (∀ e, bt kx e = true → ∀ i, bt (up e) i = true → bt kx i = true) ∧
  (∀ e, 0 ≤ sy e → bt kx e = true → tm e ≤ c) ∧
  (∀ i, bt dx i = true ↔ ∃ d, bt kx d = true ∧ ¬ 0 ≤ sy d ∧ pa d = i) ∧
  (∀ e, e ∈ l ↔ (0 ≤ sy e ∧ bt kx e = true)) ∧
  (30 :: l).Pairwise (fun a b => rg_lx K (P a) (P b))
def rg_IV (n : Nat) (sy ot tX mk up kn dl ck nx lk tY : Nat → Int32) (pa tm wh cl : Nat → Nat) (P L : Nat → List Nat) : Prop :=
  rg_EV n sy ot tX mk up lk tY pa tm wh P ∧
  (∀ x, x < 3 → rg_RX n sy up pa tm (rg_K tm wh) P (kn x) (dl x) (cl x) (L x) ∧ ck x = nI (cl x) ∧ rg_Cs nx x (30 :: L x)) ∧
  (∀ x e, x < 3 → e < n → wh e = x → bt (kn x) e = true)
section
variable {n : Nat} {sy ot tX mk up kn dl ck nx lk tY : Nat → Int32} {pa tm wh cl : Nat → Nat} {P L : Nat → List Nat}
theorem rg_EVT (V : rg_EV n sy ot tX mk up lk tY pa tm wh P) : rg_T n (fun e => 0 ≤ sy e) pa (rg_K tm wh) P := by
  obtain ⟨h1, h2, h3, h4, h5, h6⟩ := V
  refine ⟨h1, h2, fun e he hE => ?_, fun e f he hf hE hF hK => ?_⟩
  · obtain ⟨_, _, _, g1, g2, _⟩ := h3 e he
    obtain ⟨_, _, _, g3, g4⟩ := h5 e he hE
    refine ⟨g4, ?_⟩
    rcases g2 with g2 | ⟨g2, g5, g6⟩
    · exact Or.inl g2
    · refine Or.inr ⟨g2, g5, ?_⟩
      have k1 := g3 (by omega)
      obtain ⟨_, _, _, g7, _⟩ := h3 (pa e) (by omega)
      show 3 * tm (pa e) + wh (pa e) < 3 * tm e + wh e
      omega
  · obtain ⟨_, _, _, g1, _⟩ := h3 e he
    obtain ⟨_, _, _, g2, _⟩ := h3 f hf
    have hK2 : 3 * tm e + wh e = 3 * tm f + wh f := hK
    exact h6 e f he hf hE hF (by omega) (by omega)
/-! one more event -/
theorem rg_addE {x p t : Nat} {s a b : Int32} {dx : Int32} {l : List Nat} (V : rg_EV n sy ot tX mk up lk tY pa tm wh P) (hn : n < 30) (hx : x < 3)
    (R : rg_RX n sy up pa tm (rg_K tm wh) P (kn x) dx (cl x) l) (W : ∀ e, e < n → wh e = x → bt (kn x) e = true)
    (hp : p = 30 ∨ (p < n ∧ 0 ≤ sy p ∧ bt (kn x) p = true)) (hs : ¬ 0 ≤ s → p ≠ 30) (ht : 0 ≤ s → t = cl x + 1 ∧ a = nI t ∧ b = nI t) :
    rg_EV (n + 1) (upd sy n s) (upd ot n (nI p)) (upd tX n a) (upd mk n (nI x)) (upd up n (kn x)) (upd lk n (rg_lk p)) (upd tY n b) (rg_up pa n p) (rg_up tm n t) (rg_up wh n x) (rg_up P n (P p ++ [n])) := by
  obtain ⟨h1, h2, h3, h4, h5, h6⟩ := V
  refine ⟨by omega, ?_, ?_, ?_, ?_, ?_⟩
  · rw [rg_upn (by omega)]; exact h2
  · intro e he
    by_cases hen : e = n
    · subst hen
      rw [pk_us, pk_us, pk_us, pk_us, rg_ups, rg_ups]
      refine ⟨rfl, rfl, rfl, hx, ?_, R.2.1⟩
      rcases hp with hp | ⟨g1, g2, g3⟩
      · exact Or.inl hp
      · refine Or.inr ⟨g1, ?_, g3⟩
        rw [pk_un (by omega)]; exact g2
    · obtain ⟨g1, g2, g3, g4, g5, g6⟩ := h3 e (by omega)
      rw [pk_un hen, pk_un hen, pk_un hen, pk_un hen, rg_upn hen, rg_upn hen]
      refine ⟨g1, g2, g3, g4, ?_, g6⟩
      rcases g5 with g5 | ⟨g5, g7, g8⟩
      · exact Or.inl g5
      · refine Or.inr ⟨g5, ?_, g8⟩
        rw [pk_un (by omega)]; exact g7
  · intro e he
    by_cases hen : e = n
    · subst hen
      rw [pk_us, rg_ups]; exact hs
    · rw [pk_un hen, rg_upn hen]; exact h4 e (by omega)
  · intro e he
    by_cases hen : e = n
    · subst hen
      rw [pk_us, pk_us, pk_us, rg_ups, rg_ups, rg_ups]
      intro hE
      obtain ⟨t1, t2, t3⟩ := ht hE
      refine ⟨t2, t3, ?_, ?_, ?_⟩
      · have := R.1; omega
      · intro hp30
        rcases hp with hp | ⟨g1, g2, g3⟩
        · exact absurd hp hp30
        · rw [rg_upn (by omega)]
          have := R.2.2.2.1 p g2 g3
          omega
      · have hpn : p ≠ e := by rcases hp with hp | hp <;> omega
        rw [rg_upn hpn]
    · rw [pk_un hen, pk_un hen, pk_un hen, rg_upn hen, rg_upn hen, rg_upn hen]
      intro hE
      obtain ⟨g1, g2, g3, g4, g5⟩ := h5 e (by omega) hE
      have k5 := (h3 e (by omega)).2.2.2.2.1
      have hpn : pa e ≠ n := by rcases k5 with k5 | k5 <;> omega
      rw [rg_upn hpn, rg_upn hpn]
      exact ⟨g1, g2, by omega, g4, g5⟩
  · intro e f he hf
    by_cases hen : e = n
    · subst hen
      by_cases hfn : f = e
      · intro _ _ _ _; exact hfn.symm
      · rw [pk_us, pk_un hfn, rg_ups, rg_upn hfn, rg_ups, rg_upn hfn]
        intro hE hF e1 e2
        have := R.2.2.2.1 f hF (W f (by omega) e2.symm)
        have := (ht hE).1
        omega
    · by_cases hfn : f = n
      · subst hfn
        rw [pk_us, pk_un hen, rg_ups, rg_upn hen, rg_ups, rg_upn hen]
        intro hE hF e1 e2
        have := R.2.2.2.1 e hE (W e (by omega) e2)
        have := (ht hF).1
        omega
      · rw [pk_un hfn, pk_un hen, rg_upn hfn, rg_upn hen, rg_upn hfn, rg_upn hen]
        exact h6 e f (by omega) (by omega)
theorem rg_addR {x p t c : Nat} {s w : Int32} {kx dx : Int32} {l : List Nat} (V : rg_EV n sy ot tX mk up lk tY pa tm wh P) (hn : n < 30)
    (R : rg_RX n sy up pa tm (rg_K tm wh) P kx dx c l) :
    rg_RX (n + 1) (upd sy n s) (upd up n w) (rg_up pa n p) (rg_up tm n t) (rg_K (rg_up tm n t) (rg_up wh n x)) (rg_up P n (P p ++ [n])) kx dx c l := by
  have T := rg_EVT V
  obtain ⟨h1, h2, h3, h4, h5, h6, h7⟩ := R
  have lt : ∀ i, bt kx i = true → i ≠ n := fun i hi => by have := h2 i hi; omega
  refine ⟨by omega, fun i hi => by have := h2 i hi; omega, ?_, ?_, ?_, ?_, ?_⟩
  · intro e he
    rw [pk_un (lt e he)]
    exact h3 e he
  · intro e hE he
    rw [pk_un (lt e he)] at hE
    rw [rg_upn (lt e he)]
    exact h4 e hE he
  · intro i
    rw [h5 i]
    constructor
    · rintro ⟨d, d1, d2, d3⟩
      refine ⟨d, d1, ?_, ?_⟩
      · rw [pk_un (lt d d1)]; exact d2
      · rw [rg_upn (lt d d1)]; exact d3
    · rintro ⟨d, d1, d2, d3⟩
      rw [pk_un (lt d d1)] at d2
      rw [rg_upn (lt d d1)] at d3
      exact ⟨d, d1, d2, d3⟩
  · intro e
    rw [h6 e]
    constructor
    · rintro ⟨e1, e2⟩
      exact ⟨by rw [pk_un (lt e e2)]; exact e1, e2⟩
    · rintro ⟨e1, e2⟩
      rw [pk_un (lt e e2)] at e1
      exact ⟨e1, e2⟩
  · have key : ∀ a, a ∈ 30 :: l → a ≠ n ∧ ∀ z, z ∈ P a → rg_K (rg_up tm n t) (rg_up wh n x) z = rg_K tm wh z := by
      intro a ha
      rcases List.mem_cons.mp ha with ha | ha
      · refine ⟨by omega, fun z hz => ?_⟩
        rw [ha, T.2.1] at hz
        exact absurd hz List.not_mem_nil
      · obtain ⟨a1, a2⟩ := (h6 a).mp ha
        have a3 := h2 a a2
        refine ⟨by omega, fun z hz => ?_⟩
        have a4 := (rg_t2 T a3 a1 hz).1
        show 3 * rg_up tm n t z + rg_up wh n x z = 3 * tm z + wh z
        rw [rg_upn (by omega), rg_upn (by omega)]
    refine h7.imp_of_mem ?_
    intro a b ha hb hr
    obtain ⟨a1, a2⟩ := key a ha
    obtain ⟨b1, b2⟩ := key b hb
    rw [rg_upn a1, rg_upn b1]
    exact rg_cg _ _ a2 b2 hr
/-! a replica takes an event -/
theorem rg_takeE {e c' : Nat} {kx dx : Int32} {c : Nat} {l l' : List Nat} (V : rg_EV n sy ot tX mk up lk tY pa tm wh P) (R : rg_RX n sy up pa tm (rg_K tm wh) P kx dx c l)
    (he : e < n) (hE : 0 ≤ sy e) (hu : ∀ i, bt (up e) i = true → bt kx i = true) (hc : c ≤ c') (hc2 : tm e ≤ c') (hc3 : c' ≤ n)
    (hm : ∀ z, z ∈ l' ↔ (z ∈ l ∨ z = e)) (hR : (30 :: l').Pairwise (fun a b => rg_lx (rg_K tm wh) (P a) (P b))) :
    rg_RX n sy up pa tm (rg_K tm wh) P (kx ||| ((1 : Int32) <<< (nI e &&& 31))) dx c' l' := by
  have h30 := V.1
  have he32 : e < 32 := by omega
  obtain ⟨h1, h2, h3, h4, h5, h6, h7⟩ := R
  refine ⟨hc3, fun i hi => ?_, fun z hz i hi => ?_, fun z hZ hz => ?_, fun i => ?_, fun z => ?_, hR⟩
  · rcases (rg_setT kx he32 i).mp hi with h | h
    · exact h2 i h
    · omega
  · refine (rg_setT kx he32 i).mpr (Or.inl ?_)
    rcases (rg_setT kx he32 z).mp hz with h | h
    · exact h3 z h i hi
    · rw [h] at hi; exact hu i hi
  · rcases (rg_setT kx he32 z).mp hz with h | h
    · exact Nat.le_trans (h4 z hZ h) hc
    · rw [h]; exact hc2
  · rw [h5 i]
    constructor
    · rintro ⟨d, d1, d2, d3⟩
      exact ⟨d, (rg_setT kx he32 d).mpr (Or.inl d1), d2, d3⟩
    · rintro ⟨d, d1, d2, d3⟩
      rcases (rg_setT kx he32 d).mp d1 with h | h
      · exact ⟨d, h, d2, d3⟩
      · rw [h] at d2; exact absurd hE d2
  · rw [hm z, h6 z, rg_setT kx he32 z]
    constructor
    · rintro (⟨g1, g2⟩ | g)
      · exact ⟨g1, Or.inl g2⟩
      · exact ⟨by rw [g]; exact hE, Or.inr g⟩
    · rintro ⟨g1, g2 | g2⟩
      · exact Or.inl ⟨g1, g2⟩
      · exact Or.inr g2
theorem rg_takeD {e : Nat} {kx dx : Int32} {c : Nat} {l : List Nat} (V : rg_EV n sy ot tX mk up lk tY pa tm wh P) (R : rg_RX n sy up pa tm (rg_K tm wh) P kx dx c l)
    (he : e < n) (hE : ¬ 0 ≤ sy e) (hu : ∀ i, bt (up e) i = true → bt kx i = true) :
    rg_RX n sy up pa tm (rg_K tm wh) P (kx ||| ((1 : Int32) <<< (nI e &&& 31))) (dx ||| ((1 : Int32) <<< (nI (pa e) &&& 31))) c l := by
  have h30 := V.1
  have he32 : e < 32 := by omega
  have hp := (V.2.2.1 e he).2.2.2.2.1
  have hp2 := V.2.2.2.1 e he hE
  have hp32 : pa e < 32 := by rcases hp with hp | hp <;> omega
  obtain ⟨h1, h2, h3, h4, h5, h6, h7⟩ := R
  refine ⟨h1, fun i hi => ?_, fun z hz i hi => ?_, fun z hZ hz => ?_, fun i => ?_, fun z => ?_, h7⟩
  · rcases (rg_setT kx he32 i).mp hi with h | h
    · exact h2 i h
    · omega
  · refine (rg_setT kx he32 i).mpr (Or.inl ?_)
    rcases (rg_setT kx he32 z).mp hz with h | h
    · exact h3 z h i hi
    · rw [h] at hi; exact hu i hi
  · rcases (rg_setT kx he32 z).mp hz with h | h
    · exact h4 z hZ h
    · rw [h] at hZ; exact absurd hZ hE
  · rw [rg_setT dx hp32 i, h5 i]
    constructor
    · rintro (⟨d, d1, d2, d3⟩ | h)
      · exact ⟨d, (rg_setT kx he32 d).mpr (Or.inl d1), d2, d3⟩
      · exact ⟨e, (rg_setT kx he32 e).mpr (Or.inr rfl), hE, h.symm⟩
    · rintro ⟨d, d1, d2, d3⟩
      rcases (rg_setT kx he32 d).mp d1 with h | h
      · exact Or.inl ⟨d, h, d2, d3⟩
      · rw [h] at d3; exact Or.inr d3.symm
  · rw [h6 z, rg_setT kx he32 z]
    constructor
    · rintro ⟨g1, g2⟩
      exact ⟨g1, Or.inl g2⟩
    · rintro ⟨g1, g2 | g2⟩
      · exact ⟨g1, g2⟩
      · rw [g2] at g1; exact absurd g1 hE
theorem rg_IVx {x c' : Nat} {kx' dx' : Int32} {l' : List Nat} {nx' : Nat → Int32}
    (V : rg_EV n sy ot tX mk up lk tY pa tm wh P)
    (A : ∀ y, y < 3 → rg_RX n sy up pa tm (rg_K tm wh) P (kn y) (dl y) (cl y) (L y) ∧ ck y = nI (cl y) ∧ rg_Cs nx y (30 :: L y))
    (W : ∀ y e, y < 3 → e < n → wh e = y → bt (upd kn x kx' y) e = true)
    (R : rg_RX n sy up pa tm (rg_K tm wh) P kx' dx' c' l') (C : rg_Cs nx' x (30 :: l')) (hF : ∀ y c, y ≠ x → c < 31 → nx' (y * 31 + c) = nx (y * 31 + c)) :
    rg_IV n sy ot tX mk up (upd kn x kx') (upd dl x dx') (upd ck x (nI c')) nx' lk tY pa tm wh (rg_up cl x c') P (rg_up L x l') := by
  refine ⟨V, fun y hy => ?_, W⟩
  by_cases hyx : y = x
  · subst hyx
    rw [pk_us, pk_us, pk_us, rg_ups, rg_ups]
    exact ⟨R, rfl, C⟩
  · rw [pk_un hyx, pk_un hyx, pk_un hyx, rg_upn hyx, rg_upn hyx]
    obtain ⟨a1, a2, a3⟩ := A y hy
    refine ⟨a1, a2, rg_Cfr _ (fun c hc => hF y c hyx ?_) a3⟩
    have h30 := V.1
    rcases List.mem_cons.mp hc with h | h
    · omega
    · have := a1.2.1 c ((a1.2.2.2.2.2.1 c).mp h).2
      omega
end
end
section
/-! the component's walks -/
theorem rg_xr1 {post : Int32 → Prop} {j : Nat} (hj : j < 3) (h : post 1) : wpX_isReplica post (nI j) :=
  br_f (nI_pos (by omega)) (br_f (nI_ge (b := 3) hj (by decide)) h)
theorem rg_xr0 {post : Int32 → Prop} {v : Int32} (hv : rg_bad v) (h : post 0) : wpX_isReplica post v := by
  rcases hv with hv | ⟨h1, h2⟩
  · exact br_t hv h
  · exact br_f h1 (br_t h2 h)
section
variable {n : Nat} {fc : Int32} {sy ot tX mk up kn dl ck nx lk tY : Nat → Int32} {pa tm wh cl : Nat → Nat} {P L : Nat → List Nat} {x : Nat}
theorem rg_xk {post : Int32 → Prop} {e : Nat} (hx : x < 3) (he : e < 32) (h : post (rg_i (bt (kn x) e))) : wpX_knows post (fc, sy, ot, tX, mk, up, kn, dl, ck, nx) (nI x) (nI e) := by
  unfold wpX_knows
  dsimp only
  refine ⟨vp_in_nI hx (by decide), ?_⟩
  rw [nI_clamp (by omega), rg_bit _ he]
  cases hb : bt (kn x) e
  · rw [hb] at h; exact br_t rfl h
  · rw [hb] at h; exact br_f (by decide) h
theorem rg_xs {post : Int32 → Prop} {e : Nat} (hx : x < 3) (he : e < 32) (h : post (rg_i (!bt (dl x) e))) : wpX_isShown post (fc, sy, ot, tX, mk, up, kn, dl, ck, nx) (nI x) (nI e) := by
  unfold wpX_isShown
  dsimp only
  refine ⟨vp_in_nI hx (by decide), ?_⟩
  rw [nI_clamp (by omega), rg_bit _ he]
  cases hb : bt (dl x) e
  · rw [hb] at h; exact br_t rfl h
  · rw [hb] at h; exact br_f (by decide) h
theorem rg_cell {b : Nat} {l : List Nat} (hx : x < 3) (hb : b < 31) (C : rg_Cs nx x (b :: l)) : nx ((nI x * 31) + nI b).toNatClampNeg = nI (rg_hd l) := by
  rw [rg_ixc hx hb]
  exact (rg_Cc.mp C).1
theorem rg_n30 {e : Nat} (he : e < 30) : ¬ nI e = 30 := by
  intro h
  have := (nI_eq (a := e) (b := 30) (by omega) (by decide)).mp h
  omega
theorem rg_xel {post : Int32 → Prop} (hx : x < 3) (B : List Nat) : ∀ k p m : Nat, rg_Cs nx x B → (∀ b, b ∈ B → b < 30) → B.length < m → k + B.length ≤ 30 → p < 2 ^ 31 →
    post (nI ((B.filter (fun e => !bt (dl x) e)).getD p 30)) → wX_elementAt_19 post (nI x) fc sy ot tX mk up kn dl ck nx m (nI (rg_hd B)) (nI p) (nI k) := by
  induction B with
  | nil =>
    intro k p m _ _ hm hk hp h
    obtain ⟨m, rfl⟩ : ∃ m', m = m' + 1 := ⟨m - 1, by omega⟩
    have h' : post 30 := h
    by_cases h30 : 30 ≤ k
    · exact br_t (nI_le (a := 30) h30 (by simp at hk; omega)) h'
    · exact br_f (nI_ge (b := 30) (by omega) (by decide)) (br_t rfl h')
  | cons e B ih =>
    intro k p m hc hb hm hk hp h
    rw [List.length_cons] at hm hk
    obtain ⟨m, rfl⟩ : ∃ m', m = m' + 1 := ⟨m - 1, by omega⟩
    have he : e < 30 := hb e List.mem_cons_self
    have go : ∀ q, q < 2 ^ 31 → post (nI ((B.filter (fun e => !bt (dl x) e)).getD q 30)) → wX_elementAt_51 post (wX_elementAt_19 post (nI x) fc sy ot tX mk up kn dl ck nx m) (nI x) (nI e) (nI q) (nI k) fc sy ot tX mk up kn dl ck nx :=
      fun q hq hq2 => And.intro (rg_ixi hx (by omega)) (nm_r (rg_cell hx (by omega) hc) (nm_r (nI_1 k) (ih (k + 1) q m (rg_Cc.mp hc).2 (fun b hb' => hb b (List.mem_cons_of_mem _ hb')) (by omega) (by omega) hq hq2)))
    refine br_f (nI_ge (b := 30) (by omega) (by decide)) (br_f (rg_n30 he) (rg_xs (e := e) hx (by omega) ?_))
    cases hd : bt (dl x) e
    · rw [List.filter_cons_of_pos (by rw [hd]; rfl)] at h
      refine br_f (by decide) ?_
      cases p with
      | zero => exact br_t rfl h
      | succ p => exact br_f (nI_ne0 (by omega) hp) (nm_r (pk_m1 p) (go p (by omega) h))
    · rw [List.filter_cons_of_neg (by rw [hd]; decide)] at h
      exact br_t rfl (go p hp h)
theorem rg_xea {post : Int32 → Prop} {l : List Nat} {p : Nat} (hx : x < 3) (C : rg_Cs nx x (30 :: l)) (hb : ∀ b, b ∈ l → b < 30) (hl : l.length ≤ 30) (hp : p < 2 ^ 31)
    (h : post (nI ((l.filter (fun e => !bt (dl x) e)).getD p 30))) : wpX_elementAt post (fc, sy, ot, tX, mk, up, kn, dl, ck, nx) (nI x) (nI p) :=
  And.intro (rg_ixi (a := 30) hx (by omega)) (nm_r (rg_cell (b := 30) hx (by omega) C) ⟨31, rg_xel hx l 0 p 31 (rg_Cc.mp C).2 hb (by omega) (by omega) hp h⟩)
theorem rg_xln {post : Int32 → Prop} (hx : x < 3) (B : List Nat) : ∀ k c m : Nat, rg_Cs nx x B → (∀ b, b ∈ B → b < 30) → B.length < m → k + B.length ≤ 30 →
    post (nI (c + (B.filter (fun e => !bt (dl x) e)).length)) → wX_length_27 post (nI x) fc sy ot tX mk up kn dl ck nx m (nI c) (nI (rg_hd B)) (nI k) := by
  induction B with
  | nil =>
    intro k c m _ _ hm hk h
    obtain ⟨m, rfl⟩ : ∃ m', m = m' + 1 := ⟨m - 1, by omega⟩
    have h' : post (nI c) := h
    by_cases h30 : 30 ≤ k
    · exact br_t (nI_le (a := 30) h30 (by simp at hk; omega)) h'
    · exact br_f (nI_ge (b := 30) (by omega) (by decide)) (br_t rfl h')
  | cons e B ih =>
    intro k c m hc hb hm hk h
    rw [List.length_cons] at hm hk
    obtain ⟨m, rfl⟩ : ∃ m', m = m' + 1 := ⟨m - 1, by omega⟩
    have he : e < 30 := hb e List.mem_cons_self
    have go : ∀ (z : Int32) (q : Nat), nI c + z = nI q → post (nI (q + (B.filter (fun e => !bt (dl x) e)).length)) → wX_length_55 post (wX_length_27 post (nI x) fc sy ot tX mk up kn dl ck nx m) (nI x) (nI e) (nI k) z (nI c) fc sy ot tX mk up kn dl ck nx :=
      fun z q hz hq2 => nm_r hz (And.intro (rg_ixi hx (by omega)) (nm_r (rg_cell hx (by omega) hc) (nm_r (nI_1 k) (ih (k + 1) q m (rg_Cc.mp hc).2 (fun b hb' => hb b (List.mem_cons_of_mem _ hb')) (by omega) (by omega) hq2))))
    refine br_f (nI_ge (b := 30) (by omega) (by decide)) (br_f (rg_n30 he) (rg_xs (e := e) hx (by omega) ?_))
    cases hd : bt (dl x) e
    · rw [List.filter_cons_of_pos (by rw [hd]; rfl), List.length_cons, Nat.add_comm _ 1, ← Nat.add_assoc] at h
      exact br_f (by decide) (go 1 (c + 1) (nI_1 c) h)
    · rw [List.filter_cons_of_neg (by rw [hd]; decide)] at h
      exact br_t rfl (go 0 c (Int32.add_zero _) h)
theorem rg_xlen {post : Int32 → Prop} {l : List Nat} (hx : x < 3) (C : rg_Cs nx x (30 :: l)) (hb : ∀ b, b ∈ l → b < 30) (hl : l.length ≤ 30)
    (h : post (nI (l.filter (fun e => !bt (dl x) e)).length)) : wpX_length post (fc, sy, ot, tX, mk, up, kn, dl, ck, nx) (nI x) := by
  unfold wpX_length
  dsimp only
  refine rg_xr1 hx (br_f (by decide) (And.intro (rg_ixi (a := 30) hx (by omega)) (nm_r (rg_cell (b := 30) hx (by omega) C) ⟨31, rg_xln hx l 0 0 31 (rg_Cc.mp C).2 hb (by omega) (by omega) ?_⟩)))
  rw [Nat.zero_add]
  exact h
theorem rg_xpl {post : Int32 → Prop} {e : Nat} (hx : x < 3) (he : e < 30) (B2 B1 : List Nat) : ∀ k c m : Nat, rg_Cs nx x (B1 ++ e :: B2) → (∀ b, b ∈ B1 → b < 30 ∧ b ≠ e) → B1.length < m → k + B1.length < 30 →
    post (nI (c + (B1.filter (fun e => !bt (dl x) e)).length)) → wX_placeOf_67 post (nI x) (nI e) fc sy ot tX mk up kn dl ck nx m (nI c) (nI (rg_hd (B1 ++ e :: B2))) (nI k) := by
  induction B1 with
  | nil =>
    intro k c m _ _ hm hk h
    obtain ⟨m, rfl⟩ : ∃ m', m = m' + 1 := ⟨m - 1, by omega⟩
    have h' : post (nI c) := h
    rw [List.length_nil] at hk
    exact br_f (nI_ge (b := 30) (by omega) (by decide)) (br_t rfl h')
  | cons b B ih =>
    intro k c m hc hb hm hk h
    rw [List.length_cons] at hm hk
    obtain ⟨m, rfl⟩ : ∃ m', m = m' + 1 := ⟨m - 1, by omega⟩
    obtain ⟨hb1, hb2⟩ := hb b List.mem_cons_self
    have hne : ¬ nI b = nI e := fun hh => hb2 ((nI_eq (by omega) (by omega)).mp hh)
    have go : ∀ (z : Int32) (q : Nat), nI c + z = nI q → post (nI (q + (B.filter (fun e => !bt (dl x) e)).length)) → wX_placeOf_103 post (wX_placeOf_67 post (nI x) (nI e) fc sy ot tX mk up kn dl ck nx m) (nI x) (nI e) (nI b) (nI k) z (nI c) fc sy ot tX mk up kn dl ck nx :=
      fun z q hz hq2 => nm_r hz (And.intro (rg_ixi hx (by omega)) (nm_r (rg_cell hx (by omega) hc) (nm_r (nI_1 k) (ih (k + 1) q m (rg_Cc.mp hc).2 (fun b hb' => hb b (List.mem_cons_of_mem _ hb')) (by omega) (by omega) hq2))))
    refine br_f (nI_ge (b := 30) (by omega) (by decide)) (br_f hne (br_f (rg_n30 hb1) (rg_xs (e := b) hx (by omega) ?_)))
    cases hd : bt (dl x) b
    · rw [List.filter_cons_of_pos (by rw [hd]; rfl), List.length_cons, Nat.add_comm _ 1, ← Nat.add_assoc] at h
      exact br_f (by decide) (go 1 (c + 1) (nI_1 c) h)
    · rw [List.filter_cons_of_neg (by rw [hd]; decide)] at h
      exact br_t rfl (go 0 c (Int32.add_zero _) h)
theorem rg_xg {post : Int32 → Prop} {e f : Nat} (he : e < 30) (hf : f < 30) (te : tX e = nI (tm e)) (tf : tX f = nI (tm f)) (be : tm e ≤ 30) (bf : tm f ≤ 30)
    (me : mk e = nI (wh e)) (mf : mk f = nI (wh f)) (we : wh e < 3) (wf : wh f < 3) (h : post (rg_i (decide (rg_K tm wh f < rg_K tm wh e)))) : wpX_isGreater post (fc, sy, ot, tX, mk, up, kn, dl, ck, nx) (nI e) (nI f) := by
  have hv : vp_in (nI e) 30 := vp_in_nI he (by decide)
  have hw : vp_in (nI f) 30 := vp_in_nI hf (by decide)
  unfold wpX_isGreater
  dsimp only
  rw [nI_clamp (n := e) (by omega), nI_clamp (n := f) (by omega), te, tf, me, mf]
  refine ⟨hv, hw, ?_⟩
  unfold rg_K at h
  by_cases h1 : tm f < tm e
  · rw [decide_eq_true (by omega)] at h
    exact br_t (nI_lt h1 (by omega)) h
  · refine br_f (nI_nlt (by omega) (by omega)) ⟨hv, hw, ?_⟩
    by_cases h2 : tm e = tm f
    · refine br_t (by rw [h2]) ⟨hv, hw, ?_⟩
      by_cases h3 : wh e ≤ wh f
      · rw [decide_eq_false (by omega)] at h
        exact br_t (nI_le h3 (by omega)) h
      · rw [decide_eq_true (by omega)] at h
        exact br_f (nI_ge (by omega) (by omega)) h
    · rw [decide_eq_false (by omega)] at h
      exact br_f (fun hh => h2 ((nI_eq (by omega) (by omega)).mp hh)) h
theorem rg_x47 {post : SX → Prop} {e b f : Nat} (hx : x < 3) (he : e < 30) (hb : b < 31) (hf : f < 31)
    (h : post (fc, sy, ot, tX, mk, up, kn, dl, ck, upd (upd nx (x * 31 + e) (nI f)) (x * 31 + b) (nI e))) : wX_integrate_47 post (nI x) (nI e) (nI b) (nI f) fc sy ot tX mk up kn dl ck nx := by
  unfold wX_integrate_47
  rw [rg_ixc hx (by omega : e < 31), rg_ixc hx hb, rg_nar2 (a := f) (by omega), rg_nar2 (a := e) (by omega)]
  exact ⟨rg_ixi hx (by omega), nm_e ⟨rg_ixi hx hb, nm_e h⟩⟩
end
end
section
/-! the component puts an element into a chain, and takes an event -/
def rg_nc (s : Int32) (c t : Nat) : Nat := if 0 ≤ s ∧ c < t then t else c
theorem rg_tl {l A B : List Nat} {b : Nat} (h : 30 :: l = A ++ b :: B) : ∀ g, g ∈ B → g ∈ l := by
  intro g hg
  cases A with
  | nil =>
    have := (List.cons.inj h).2
    rw [this]; exact hg
  | cons a A =>
    have := (List.cons.inj h).2
    rw [this]
    exact List.mem_append_right _ (List.mem_cons_of_mem _ hg)
theorem rg_newl {l A B : List Nat} {b e : Nat} (h : 30 :: l = A ++ b :: B) : ∃ l', A ++ b :: e :: B = 30 :: l' ∧ ∀ z, z ∈ l' ↔ (z ∈ l ∨ z = e) := by
  cases A with
  | nil =>
    obtain ⟨h1, h2⟩ := List.cons.inj h
    subst h1 h2
    refine ⟨e :: l, rfl, fun z => ?_⟩
    rw [List.mem_cons, or_comm]
  | cons a A =>
    obtain ⟨h1, h2⟩ := List.cons.inj h
    refine ⟨A ++ b :: e :: B, by rw [h1]; rfl, fun z => ?_⟩
    have h3 : l = A ++ b :: B := h2
    rw [h3]
    simp only [List.mem_append, List.mem_cons]
    constructor
    · rintro (g | g | g | g)
      · exact Or.inl (Or.inl g)
      · exact Or.inl (Or.inr (Or.inl g))
      · exact Or.inr g
      · exact Or.inl (Or.inr (Or.inr g))
    · rintro ((g | g | g) | g)
      · exact Or.inl g
      · exact Or.inr (Or.inl g)
      · exact Or.inr (Or.inr (Or.inr g))
      · exact Or.inr (Or.inr (Or.inl g))
section
variable {n : Nat} {fc : Int32} {sy ot tX mk up kn dl ck nx lk tY : Nat → Int32} {pa tm wh cl : Nat → Nat} {P L : Nat → List Nat} {x : Nat}
theorem rg_xin (V : rg_EV n sy ot tX mk up lk tY pa tm wh P) {e : Nat} {l : List Nat} (hx : x < 3) (he : e < n) (hE : 0 ≤ sy e) (C : rg_Cs nx x (30 :: l))
    (LC : rg_Lc n (fun e => 0 ≤ sy e) pa l) (hel : ¬ e ∈ l) (R : (30 :: l).Pairwise (fun a b => rg_lx (rg_K tm wh) (P a) (P b))) (B : List Nat) :
    ∀ (A : List Nat) (b k : Nat), 30 :: l = A ++ b :: B → rg_J (rg_K tm wh) P (pa e) e (A ++ [b]) B → k + B.length ≤ 29 →
    ∃ A' b' B', 30 :: l = A' ++ b' :: B' ∧ (A' ++ b' :: e :: B').Pairwise (fun a b => rg_lx (rg_K tm wh) (P a) (P b)) ∧
      ∀ (fc : Int32) (kn dl ck : Nat → Int32) (post : SX → Prop) (m : Nat), B.length < m →
        post (fc, sy, ot, tX, mk, up, kn, dl, ck, upd (upd nx (x * 31 + e) (nI (rg_hd B'))) (x * 31 + b') (nI e)) →
        wX_integrate_10 post (nI x) (nI e) fc sy ot tX mk up kn dl ck nx m (nI b) (nI k) := by
  have T := rg_EVT V
  have h30 := V.1
  have bnd : ∀ A b B, 30 :: l = A ++ b :: B → b < 31 := by
    intro A b B hM
    have h1 : b ∈ 30 :: l := by rw [hM]; simp
    rcases List.mem_cons.mp h1 with h2 | h2
    · omega
    · have := (LC b h2).1; omega
  induction B with
  | nil =>
    intro A b k hM J hk
    have R' := R
    rw [hM] at R'
    have hb := bnd A b [] hM
    refine ⟨A, b, [], hM, ?_, ?_⟩
    · have h := rg_Jend0 R' J
      rw [List.append_assoc] at h
      exact h
    · intro fc kn dl ck post m hm h
      obtain ⟨m, rfl⟩ : ∃ m', m = m' + 1 := ⟨m - 1, by omega⟩
      have Cb : rg_Cs nx x (b :: []) := rg_Csuf A _ (by rw [← hM]; exact C)
      rw [List.length_nil] at hk
      exact br_f (nI_ge (b := 30) (by omega) (by decide)) (And.intro (rg_ixi hx hb) (nm_r (e' := nI 30) (rg_cell hx hb Cb) (br_t rfl (rg_x47 (f := 30) hx (by omega) hb (by omega) h))))
  | cons f B ih =>
    intro A b k hM J hk
    rw [List.length_cons] at hk
    have hb := bnd A b (f :: B) hM
    have hfl : f ∈ l := rg_tl hM f List.mem_cons_self
    obtain ⟨hf1, hf2, _⟩ := LC f hfl
    have Cb : rg_Cs nx x (b :: f :: B) := rg_Csuf A _ (by rw [← hM]; exact C)
    have hM2 : 30 :: l = (A ++ [b]) ++ f :: B := by rw [hM, List.append_assoc]; rfl
    have R2 : ((A ++ [b]) ++ f :: B).Pairwise (fun a b => rg_lx (rg_K tm wh) (P a) (P b)) := by rw [← hM2]; exact R
    have hne : rg_K tm wh e ≠ rg_K tm wh f := fun h => hel (by rw [T.2.2.2 e f he hf1 hE hf2 h]; exact hfl)
    obtain ⟨te, _, te2, _⟩ := V.2.2.2.2.1 e he hE
    obtain ⟨tf, _, tf2, _⟩ := V.2.2.2.2.1 f hf1 hf2
    obtain ⟨_, _, me, we, _⟩ := V.2.2.1 e he
    obtain ⟨_, _, mf, wf, _⟩ := V.2.2.1 f hf1
    by_cases hK : rg_K tm wh f < rg_K tm wh e
    · refine ⟨A, b, f :: B, hM, ?_, ?_⟩
      · have h := rg_Jend1 T he hE hf1 hf2 R2 J hK
        rw [List.append_assoc] at h
        exact h
      · intro fc kn dl ck post m hm h
        obtain ⟨m, rfl⟩ : ∃ m', m = m' + 1 := ⟨m - 1, by omega⟩
        refine br_f (nI_ge (b := 30) (by omega) (by decide)) (And.intro (rg_ixi hx hb) (nm_r (e' := nI f) (rg_cell hx hb Cb) (br_f (rg_n30 (by omega)) (rg_xg (tm := tm) (wh := wh) (by omega) (by omega) te tf (by omega) (by omega) me mf we wf ?_))))
        rw [decide_eq_true hK]
        exact br_f (by decide) (rg_x47 hx (by omega) hb (by omega) h)
    · have hK2 : rg_K tm wh e < rg_K tm wh f := by omega
      have J2 := rg_Jgo T he hE LC hM2 R2 hel hfl J hK2
      obtain ⟨A', b', B', g1, g2, g3⟩ := ih (A ++ [b]) f (k + 1) hM2 J2 (by omega)
      refine ⟨A', b', B', g1, g2, ?_⟩
      intro fc kn dl ck post m hm h
      rw [List.length_cons] at hm
      obtain ⟨m, rfl⟩ : ∃ m', m = m' + 1 := ⟨m - 1, by omega⟩
      refine br_f (nI_ge (b := 30) (by omega) (by decide)) (And.intro (rg_ixi hx hb) (nm_r (e' := nI f) (rg_cell hx hb Cb) (br_f (rg_n30 (by omega)) (rg_xg (tm := tm) (wh := wh) (by omega) (by omega) te tf (by omega) (by omega) me mf we wf ?_))))
      rw [decide_eq_false hK]
      exact br_t rfl (nm_r (nI_1 k) (g3 fc kn dl ck post m (by omega) h))
theorem rg_RLc (V : rg_EV n sy ot tX mk up lk tY pa tm wh P) {kx dx : Int32} {c : Nat} {l : List Nat} (R : rg_RX n sy up pa tm (rg_K tm wh) P kx dx c l) : rg_Lc n (fun e => 0 ≤ sy e) pa l := by
  intro f hf
  obtain ⟨f1, f2⟩ := (R.2.2.2.2.2.1 f).mp hf
  have f3 := R.2.1 f f2
  refine ⟨f3, f1, ?_⟩
  rcases (V.2.2.1 f f3).2.2.2.2.1 with g | ⟨_, g2, g3⟩
  · exact Or.inl g
  · exact Or.inr ((R.2.2.2.2.2.1 (pa f)).mpr ⟨g2, R.2.2.1 f f2 _ g3⟩)
theorem rg_xtake {e : Nat} (V : rg_EV n sy ot tX mk up lk tY pa tm wh P)
    (A : ∀ y, y < 3 → rg_RX n sy up pa tm (rg_K tm wh) P (kn y) (dl y) (cl y) (L y) ∧ ck y = nI (cl y) ∧ rg_Cs nx y (30 :: L y))
    (W : ∀ y e', y < 3 → e' < n → wh e' = y → bt (kn y) e' = true ∨ (y = x ∧ e' = e))
    (hx : x < 3) (he : e < n) (hk : bt (kn x) e = false) (hu : ∀ i, bt (up e) i = true → bt (kn x) i = true) :
    ∃ dl' nx' l', rg_IV n sy ot tX mk up (upd kn x (kn x ||| ((1 : Int32) <<< (nI e &&& 31)))) dl' (upd ck x (nI (rg_nc (sy e) (cl x) (tm e)))) nx' lk tY pa tm wh (rg_up cl x (rg_nc (sy e) (cl x) (tm e))) P (rg_up L x l') ∧
      ∀ post : SX → Prop, post (fc, sy, ot, tX, mk, up, upd kn x (kn x ||| ((1 : Int32) <<< (nI e &&& 31))), dl', upd ck x (nI (rg_nc (sy e) (cl x) (tm e))), nx') →
        wpX_take post (fc, sy, ot, tX, mk, up, kn, dl, ck, nx) (nI x) (nI e) := by
  obtain ⟨Rx, ckx, Cx⟩ := A x hx
  have T := rg_EVT V
  have h30 := V.1
  have he32 : e < 32 := by omega
  have hv3 : vp_in (nI x) 3 := vp_in_nI hx (by decide)
  have hv30 : vp_in (nI e) 30 := vp_in_nI (by omega) (by decide)
  obtain ⟨ote, _, _, _, pe, _⟩ := V.2.2.1 e he
  have W' : ∀ y e', y < 3 → e' < n → wh e' = y → bt (upd kn x (kn x ||| ((1 : Int32) <<< (nI e &&& 31))) y) e' = true := by
    intro y e' hy he' hw
    by_cases hyx : y = x
    · subst hyx
      rw [pk_us, rg_setT _ he32]
      rcases W y e' hy he' hw with h | h
      · exact Or.inl h
      · exact Or.inr h.2
    · rw [pk_un hyx]
      rcases W y e' hy he' hw with h | h
      · exact h
      · exact absurd h.1 hyx
  by_cases hE : 0 ≤ sy e
  · have LC := rg_RLc V Rx
    have hel : ¬ e ∈ L x := fun h => by
      have := ((Rx.2.2.2.2.2.1 e).mp h).2
      rw [hk] at this
      exact absurd this (by decide)
    have hpm : pa e ∈ 30 :: L x := by
      rcases pe with g | ⟨_, g2, g3⟩
      · rw [g]; exact List.mem_cons_self
      · exact List.mem_cons_of_mem _ ((Rx.2.2.2.2.2.1 (pa e)).mpr ⟨g2, hu _ g3⟩)
    obtain ⟨A0, B0, hM⟩ := List.append_of_mem hpm
    have R0 := Rx.2.2.2.2.2.2
    have hnd := rg_Rnd R0
    have hlen : (e :: L x).length ≤ n := by
      refine rg_lenle _ (List.nodup_cons.mpr ⟨hel, (List.nodup_cons.mp hnd).2⟩) ?_
      intro z hz
      rcases List.mem_cons.mp hz with h | h
      · omega
      · exact (LC z h).1
    have hlen2 := congrArg List.length hM
    rw [List.length_cons, List.length_append, List.length_cons] at hlen2
    rw [List.length_cons] at hlen
    have J0 : rg_J (rg_K tm wh) P (pa e) e (A0 ++ [pa e]) B0 := rg_J0 T he hE (by rw [← hM]; exact R0)
    obtain ⟨A', b', B', g1, g2, g3⟩ := rg_xin V hx he hE Cx LC hel R0 B0 A0 (pa e) 0 hM J0 (by omega)
    obtain ⟨l', hl1, hl2⟩ := rg_newl (e := e) g1
    have hb' : b' < 31 := by
      have h1 : b' ∈ 30 :: L x := by rw [g1]; simp
      rcases List.mem_cons.mp h1 with h2 | h2
      · omega
      · have := (LC b' h2).1; omega
    obtain ⟨te, _, te2, _⟩ := V.2.2.2.2.1 e he hE
    have hc1 : cl x ≤ rg_nc (sy e) (cl x) (tm e) := by
      unfold rg_nc
      by_cases h : 0 ≤ sy e ∧ cl x < tm e
      · rw [if_pos h]; omega
      · rw [if_neg h]; omega
    have hc2 : tm e ≤ rg_nc (sy e) (cl x) (tm e) := by
      unfold rg_nc
      by_cases h : cl x < tm e
      · rw [if_pos ⟨hE, h⟩]; omega
      · rw [if_neg (fun hh => h hh.2)]; omega
    have hc3 : rg_nc (sy e) (cl x) (tm e) ≤ n := by
      unfold rg_nc
      by_cases h : 0 ≤ sy e ∧ cl x < tm e
      · rw [if_pos h]; omega
      · rw [if_neg h]; exact Rx.1
    have hCn : rg_Cs (upd (upd nx (x * 31 + e) (nI (rg_hd B'))) (x * 31 + b') (nI e)) x (30 :: l') := by
      rw [← hl1]
      refine rg_Cins B' A' (by rw [← g1]; exact Cx) (by rw [← g1]; exact hnd) ?_
      rw [← g1]
      intro h
      rcases List.mem_cons.mp h with h | h
      · omega
      · exact hel h
    refine ⟨dl, upd (upd nx (x * 31 + e) (nI (rg_hd B'))) (x * 31 + b') (nI e), l', ?_, ?_⟩
    · have h := rg_IVx (dx' := dl x) (cl := cl) (L := L) (ck := ck) (nx := nx) V A W' (rg_takeE V Rx he hE hu hc1 hc2 hc3 hl2 (by rw [← hl1]; exact g2)) hCn (by
        intro y c hy hc
        rw [pk_un (by omega), pk_un (by omega)])
      rw [rg_same] at h
      exact h
    · intro post h
      have hint : ∀ (kn' ck' : Nat → Int32) (post' : SX → Prop), post' (fc, sy, ot, tX, mk, up, kn', dl, ck', upd (upd nx (x * 31 + e) (nI (rg_hd B'))) (x * 31 + b') (nI e)) → wpX_integrate post' (fc, sy, ot, tX, mk, up, kn', dl, ck', nx) (nI x) (nI e) := by
        intro kn' ck' post' h'
        refine And.intro hv30 (nm_r (e' := nI (pa e)) ?_ ⟨31, g3 fc kn' dl ck' post' 31 (by omega) h'⟩)
        rw [nI_clamp (by omega)]
        exact ote
      unfold wpX_take
      dsimp only
      rw [nI_clamp (n := x) (by omega), nI_clamp (n := e) (by omega)]
      refine ⟨hv3, hv3, nm_e ⟨hv30, br_t hE ⟨hv30, hv3, ?_⟩⟩⟩
      rw [te, ckx]
      by_cases hc : tm e ≤ cl x
      · refine br_t (nI_le hc (by have := Rx.1; omega)) (hint _ _ _ ?_)
        have e1 : upd ck x (nI (rg_nc (sy e) (cl x) (tm e))) = ck := by
          apply rg_same2
          unfold rg_nc
          rw [if_neg (fun hh => by omega), ckx]
        rw [e1] at h
        exact h
      · refine br_f (nI_ge (by omega) (by omega)) ⟨hv30, hv3, nm_r (e' := upd ck x (nI (tm e))) (by rw [rg_nar (by omega)]) (hint _ _ _ ?_)⟩
        have e1 : rg_nc (sy e) (cl x) (tm e) = tm e := if_pos ⟨hE, by omega⟩
        rw [e1] at h
        exact h
  · have e1 : rg_nc (sy e) (cl x) (tm e) = cl x := if_neg (fun hh => hE hh.1)
    have hF : ∀ y c, y ≠ x → c < 31 → nx (y * 31 + c) = nx (y * 31 + c) := fun _ _ _ _ => rfl
    refine ⟨upd dl x (dl x ||| ((1 : Int32) <<< (nI (pa e) &&& 31))), nx, L x, ?_, ?_⟩
    · rw [e1]
      exact rg_IVx V A W' (rg_takeD V Rx he hE hu) Cx hF
    · intro post h
      have e2 : upd ck x (nI (rg_nc (sy e) (cl x) (tm e))) = ck := rg_same2 (by rw [e1, ckx])
      rw [e2] at h
      unfold wpX_take
      dsimp only
      rw [nI_clamp (n := x) (by omega), nI_clamp (n := e) (by omega), ote]
      exact ⟨hv3, hv3, nm_e ⟨hv30, br_f hE ⟨hv3, hv30, hv3, nm_e h⟩⟩⟩
end
end
section
/-! the reference's walks: replicas, known events, the tree and its order -/
theorem rg_23 {v : Int32} (h : 3 ≤ v) : 2 < v := by
  rw [Int32.le_iff_toInt_le, show (3 : Int32).toInt = 3 from by decide] at h
  rw [Int32.lt_iff_toInt_lt, show (2 : Int32).toInt = 2 from by decide]
  omega
section
variable {n : Nat} {fc : Int32} {sy ot tX mk up kn dl ck nx lk tY : Nat → Int32} {pa tm wh cl : Nat → Nat} {P L : Nat → List Nat} {x : Nat}
theorem rg_yr1 {post : Int32 → Prop} {j : Nat} (hj : j < 3) (h : post 1) : wpY_replica post (fc, sy, lk, mk, tY, up, kn, ck) (nI j) :=
  br_f (nI_pos (by omega)) (br_f (nI_nlt (a := 2) (by omega) (by decide)) h)
theorem rg_yr0 {post : Int32 → Prop} {v : Int32} (hv : rg_bad v) (h : post 0) : wpY_replica post (fc, sy, lk, mk, tY, up, kn, ck) v := by
  rcases hv with hv | ⟨h1, h2⟩
  · exact br_t hv h
  · exact br_f h1 (br_t (rg_23 h2) h)
theorem rg_yk {post : Int32 → Prop} {e : Nat} (hx : x < 3) (he : e < n) (hn : n ≤ 30) (h : post (rg_i (bt (kn x) e))) : wpY_isKnown post (nI n, sy, lk, mk, tY, up, kn, ck) (nI x) (nI e) := by
  unfold wpY_isKnown
  dsimp only
  refine br_f (nI_pos (by omega)) (br_f (nI_ge he (by omega)) ⟨vp_in_nI hx (by decide), ?_⟩)
  rw [nI_clamp (by omega), rg_bit _ (by omega)]
  cases hb : bt (kn x) e
  · rw [hb] at h; exact br_f (by decide) h
  · rw [hb] at h; exact br_t rfl h
theorem rg_yk0 {post : Int32 → Prop} {v w : Int32} (hv : v < 0 ∨ (¬ v < 0 ∧ fc ≤ v)) (h : post 0) : wpY_isKnown post (fc, sy, lk, mk, tY, up, kn, ck) w v := by
  rcases hv with hv | ⟨h1, h2⟩
  · exact br_t hv h
  · exact br_f h1 (br_t h2 h)
theorem rg_lkn {p : Nat} (h : p ≠ 30) : rg_lk p = nI p := if_neg h
theorem rg_lk30 : rg_lk 30 = -1 := if_pos rfl
theorem rg_yd1 (V : rg_EV n sy ot tX mk up lk tY pa tm wh P) {post : Int32 → Prop} {a : Nat} (ha : a < 30) (p : Nat) : (p = 30 ∨ (p < n ∧ 0 ≤ sy p)) → ∀ k m : Nat, 0 < m → k ≤ 30 → (p = 30 ∨ (p + k < 30 ∧ p + 1 < m)) →
    post (rg_i (decide (a ∈ P p))) → wY_descends_10 post (nI a) fc sy lk mk tY up kn ck m (rg_lk p) (nI k) := by
  have T := rg_EVT V
  have h30 := V.1
  have end0 : ∀ k m : Nat, 0 < m → k ≤ 30 → post 0 → wY_descends_10 post (nI a) fc sy lk mk tY up kn ck m (-1) (nI k) := by
    intro k m hm hk h
    obtain ⟨m, rfl⟩ : ∃ m', m = m' + 1 := ⟨m - 1, by omega⟩
    have h39 : wY_descends_39 post (nI a) (-1) fc sy lk mk tY up kn ck := br_t rg_mneg h
    by_cases hk2 : 30 ≤ k
    · exact br_t (nI_le (a := 30) hk2 (by omega)) h39
    · exact br_f (nI_ge (b := 30) (by omega) (by decide)) (br_t rg_mneg h39)
  induction p using Nat.strongRecOn with
  | ind p ih =>
    intro hp k m hm hk hpk h
    by_cases hp30 : p = 30
    · subst hp30
      rw [rg_lk30]
      rw [T.2.1, decide_eq_false List.not_mem_nil] at h
      exact end0 k m hm hk h
    · obtain ⟨hp1, hp2⟩ := hp.resolve_left hp30
      obtain ⟨hk1, hk2⟩ := hpk.resolve_left hp30
      obtain ⟨m, rfl⟩ : ∃ m', m = m' + 1 := ⟨m - 1, by omega⟩
      rw [rg_lkn hp30]
      refine br_f (nI_ge (b := 30) (by omega) (by decide)) (br_f (nI_pos (by omega)) ?_)
      by_cases hpa : p = a
      · subst hpa
        rw [decide_eq_true (rg_self T hp1 hp2)] at h
        exact br_t rfl (br_f (nI_pos (by omega)) (br_t rfl h))
      · refine br_f (fun hh => hpa ((nI_eq (by omega) (by omega)).mp hh)) (And.intro (vp_in_nI (by omega) (by decide)) (nm_r (e' := rg_lk (pa p)) ?_ (nm_r (nI_1 k) ?_)))
        · rw [nI_clamp (by omega)]; exact (V.2.2.1 p hp1).2.1
        · have hpp := (V.2.2.1 p hp1).2.2.2.2.1
          have e1 : decide (a ∈ P p) = decide (a ∈ P (pa p)) := by
            apply decide_eq_decide.mpr
            rw [rg_mem T hp1 hp2]
            exact ⟨fun hh => hh.resolve_right (fun h2 => hpa h2.symm), Or.inl⟩
          rw [e1] at h
          rcases hpp with hpp | ⟨g1, g2, g3⟩
          · rw [hpp, T.2.1, decide_eq_false List.not_mem_nil] at h
            rw [hpp, rg_lk30]
            exact end0 (k + 1) m (by omega) (by omega) h
          · exact ih (pa p) g1 (Or.inr ⟨by omega, g2⟩) (k + 1) m (by omega) (by omega) (Or.inr ⟨by omega, by omega⟩) h
theorem rg_yd (V : rg_EV n sy ot tX mk up lk tY pa tm wh P) {post : Int32 → Prop} {e a : Nat} (he : e < n) (ha : a < 30) (h : post (rg_i (decide (a ∈ P (pa e))))) :
    wpY_descends post (fc, sy, lk, mk, tY, up, kn, ck) (nI e) (nI a) := by
  have h30 := V.1
  refine And.intro (vp_in_nI (by omega) (by decide)) (nm_r (e' := rg_lk (pa e)) ?_ ⟨32, rg_yd1 V ha (pa e) ?_ 0 32 (by omega) (by omega) ?_ h⟩)
  · rw [nI_clamp (by omega)]; exact (V.2.2.1 e he).2.1
  · rcases (V.2.2.1 e he).2.2.2.2.1 with g | ⟨g1, g2, _⟩
    · exact Or.inl g
    · exact Or.inr ⟨by omega, g2⟩
  · rcases (V.2.2.1 e he).2.2.2.2.1 with g | ⟨g1, g2, _⟩
    · exact Or.inl g
    · exact Or.inr ⟨by omega, by omega⟩
theorem rg_ybr (V : rg_EV n sy ot tX mk up lk tY pa tm wh P) {e f : Nat} (he : e < n) (hE : 0 ≤ sy e) (hf : f < n) (hF : 0 ≤ sy f) (hfe : ¬ f ∈ P e) (p : Nat) :
    p ∈ P e → ¬ p ∈ P f → ∃ y, y ∈ P e ∧ ¬ y ∈ P f ∧ (pa y = 30 ∨ pa y ∈ P f) ∧
      ∀ (post : Int32 → Prop) (k m : Nat), p + k < 30 → p < m → post (nI y) → wY_branch_5 post (nI f) fc sy lk mk tY up kn ck m (nI p) (nI k) := by
  have T := rg_EVT V
  have h30 := V.1
  induction p using Nat.strongRecOn with
  | ind p ih =>
    intro hpe hpf
    obtain ⟨p1, p2, _, B, p4⟩ := rg_t2 T he hE hpe
    have pn : p < n := by omega
    have hv : vp_in (nI p) 30 := vp_in_nI (by omega) (by decide)
    have elk : lk (nI p).toNatClampNeg = rg_lk (pa p) := by
      rw [nI_clamp (by omega)]; exact (V.2.2.1 p pn).2.1
    rcases (V.2.2.1 p pn).2.2.2.2.1 with hpp | ⟨g1, g2, g3⟩
    · refine ⟨p, hpe, hpf, Or.inl hpp, ?_⟩
      intro post k m hk hm h
      obtain ⟨m, rfl⟩ : ∃ m', m = m' + 1 := ⟨m - 1, by omega⟩
      refine br_f (nI_ge (b := 30) (by omega) (by decide)) (And.intro hv (br_t ?_ h))
      rw [elk, hpp, rg_lk30]; exact rg_mneg
    · have hp30 : pa p ≠ 30 := by omega
      have elk2 : lk (nI p).toNatClampNeg = nI (pa p) := by rw [elk, rg_lkn hp30]
      have hnn : ¬ lk (nI p).toNatClampNeg < 0 := by rw [elk2]; exact nI_pos (by omega)
      by_cases hd : pa p ∈ P (pa f)
      · refine ⟨p, hpe, hpf, Or.inr ((rg_mem T hf hF).mpr (Or.inl hd)), ?_⟩
        intro post k m hk hm h
        obtain ⟨m, rfl⟩ : ∃ m', m = m' + 1 := ⟨m - 1, by omega⟩
        refine br_f (nI_ge (b := 30) (by omega) (by decide)) (And.intro hv (br_f hnn (And.intro hv ?_)))
        rw [elk2]
        refine rg_yd V hf (by omega) ?_
        rw [decide_eq_true hd]
        exact br_f (by decide) h
      · have hppe : pa p ∈ P e := by
          rw [p4, (V.2.2.2.2.1 p pn p2).2.2.2.2]
          exact List.mem_append_left _ (List.mem_append_left _ (rg_self T (by omega) g2))
        have hppf : ¬ pa p ∈ P f := by
          intro hh
          rcases (rg_mem T hf hF).mp hh with h1 | h1
          · exact hd h1
          · rw [h1] at hppe; exact hfe hppe
        obtain ⟨y, y1, y2, y3, y4⟩ := ih (pa p) g1 hppe hppf
        refine ⟨y, y1, y2, y3, ?_⟩
        intro post k m hk hm h
        obtain ⟨m, rfl⟩ : ∃ m', m = m' + 1 := ⟨m - 1, by omega⟩
        refine br_f (nI_ge (b := 30) (by omega) (by decide)) (And.intro hv (br_f hnn (And.intro hv ?_)))
        rw [elk2]
        refine rg_yd V hf (by omega) ?_
        rw [decide_eq_false hd]
        exact br_t rfl (And.intro hv (nm_e (nm_r (nI_1 k) (y4 post (k + 1) m (by omega) (by omega) h))))
theorem rg_ybf (V : rg_EV n sy ot tX mk up lk tY pa tm wh P) {post : Int32 → Prop} {a b : Nat} {r : Bool} (ha : a < n) (hA : 0 ≤ sy a) (hb : b < n) (hB : 0 ≤ sy b) (hab : a ≠ b)
    (hr : r = true ↔ rg_lx (rg_K tm wh) (P a) (P b)) (h : post (rg_i r)) : wpY_before post (fc, sy, lk, mk, tY, up, kn, ck) (nI a) (nI b) := by
  have T := rg_EVT V
  have h30 := V.1
  unfold wpY_before
  dsimp only
  refine rg_yd V hb (by omega) ?_
  by_cases h1 : a ∈ P (pa b)
  · have e1 : r = true := hr.mpr (rg_anc T hb hB h1)
    rw [e1] at h
    rw [decide_eq_true h1]
    refine br_f (by decide) (rg_yd V hb (by omega) ?_)
    rw [decide_eq_true h1]
    exact ⟨rfl, h⟩
  · rw [decide_eq_false h1]
    refine br_t rfl (rg_yd V ha (by omega) ?_)
    by_cases h2 : b ∈ P (pa a)
    · have e1 : r = false := by
        cases hrr : r
        · rfl
        · exact (rg_as (hr.mp hrr) (rg_anc T ha hA h2)).elim
      rw [e1] at h
      rw [decide_eq_true h2]
      refine br_f (by decide) (rg_yd V hb (by omega) ?_)
      rw [decide_eq_false h1]
      exact ⟨rfl, h⟩
    · rw [decide_eq_false h2]
      refine br_t rfl ?_
      have hba : ¬ b ∈ P a := fun hh => by
        rcases (rg_mem T ha hA).mp hh with h3 | h3
        · exact h2 h3
        · exact hab h3.symm
      have hab2 : ¬ a ∈ P b := fun hh => by
        rcases (rg_mem T hb hB).mp hh with h3 | h3
        · exact h1 h3
        · exact hab h3
      obtain ⟨y, y1, y2, y3, y4⟩ := rg_ybr (fc := fc) (kn := kn) (ck := ck) V ha hA hb hB hba a (rg_self T ha hA) hab2
      obtain ⟨z, z1, z2, z3, z4⟩ := rg_ybr (fc := fc) (kn := kn) (ck := ck) V hb hB ha hA hab2 b (rg_self T hb hB) hba
      obtain ⟨yn, yE, _, _⟩ := rg_t2 T ha hA y1
      obtain ⟨zn, zE, _, _⟩ := rg_t2 T hb hB z1
      have hvy : vp_in (nI y) 30 := vp_in_nI (by omega) (by decide)
      have hvz : vp_in (nI z) 30 := vp_in_nI (by omega) (by decide)
      obtain ⟨_, ty, ty2, _⟩ := V.2.2.2.2.1 y (by omega) yE
      obtain ⟨_, tz, tz2, _⟩ := V.2.2.2.2.1 z (by omega) zE
      obtain ⟨_, _, my, wy, _⟩ := V.2.2.1 y (by omega)
      obtain ⟨_, _, mz, wz, _⟩ := V.2.2.1 z (by omega)
      have hrK : r = decide (rg_K tm wh z < rg_K tm wh y) := by
        by_cases hK : rg_K tm wh z < rg_K tm wh y
        · rw [decide_eq_true hK]
          exact hr.mpr (rg_part T ha hA hb hB y1 y2 y3 z1 z2 z3 hK)
        · rw [decide_eq_false hK]
          have hyz : rg_K tm wh y ≠ rg_K tm wh z := fun hh => by
            have := T.2.2.2 y z (by omega) (by omega) yE zE hh
            rw [this] at y1
            exact z2 y1
          cases hrr : r
          · rfl
          · exact (rg_as (hr.mp hrr) (rg_part T hb hB ha hA z1 z2 z3 y1 y2 y3 (by omega))).elim
      rw [hrK] at h
      refine Exists.intro 31 (y4 _ 0 31 (by omega) (by omega) (Exists.intro 31 (z4 _ 0 31 (by omega) (by omega) ?_)))
      rw [nI_clamp (n := y) (by omega), nI_clamp (n := z) (by omega), ty, tz, my, mz]
      refine ⟨hvy, hvz, ?_⟩
      unfold rg_K at h
      by_cases h3 : tm z < tm y
      · rw [decide_eq_true (by omega)] at h
        exact br_t (nI_lt h3 (by omega)) h
      · refine br_f (nI_nlt (by omega) (by omega)) ⟨hvy, hvz, ?_⟩
        by_cases h4 : tm y = tm z
        · refine br_t (by rw [h4]) ⟨hvy, hvz, ?_⟩
          by_cases h5 : wh y ≤ wh z
          · rw [decide_eq_false (by omega)] at h
            exact br_t (nI_le h5 (by omega)) h
          · rw [decide_eq_true (by omega)] at h
            exact br_f (nI_ge (by omega) (by omega)) h
        · rw [decide_eq_false (by omega)] at h
          exact br_f (fun hh => h4 ((nI_eq (by omega) (by omega)).mp hh)) h
end
end
section
/-! the reference counts: which elements stand, how many come before one, which one stands at a place -/
def rg_pos : List Nat → Nat → Nat
  | [], _ => 0
  | a :: l, e => if a = e then 0 else rg_pos l e + 1
theorem rg_posA {e : Nat} (V2 V1 : List Nat) (h : ¬ e ∈ V1) : rg_pos (V1 ++ e :: V2) e = V1.length := by
  induction V1 with
  | nil => exact if_pos rfl
  | cons a V1 ih =>
    have h1 : a ≠ e := fun hh => h (by rw [hh]; exact List.mem_cons_self)
    show (if a = e then 0 else rg_pos (V1 ++ e :: V2) e + 1) = _
    rw [if_neg h1, ih (fun hh => h (List.mem_cons_of_mem _ hh)), List.length_cons]
theorem rg_posG (V : List Nat) : V.Nodup → ∀ p, p < V.length → rg_pos V (V.getD p 30) = p ∧ V.getD p 30 ∈ V := by
  induction V with
  | nil => intro _ p hp; exact absurd hp (Nat.not_lt_zero p)
  | cons a V ih =>
    intro hd p hp
    cases p with
    | zero => exact ⟨if_pos rfl, List.mem_cons_self⟩
    | succ p =>
      rw [List.length_cons] at hp
      have hd2 := List.nodup_cons.mp hd
      obtain ⟨h1, h2⟩ := ih hd2.2 p (by omega)
      have h3 : (a :: V).getD (p + 1) 30 = V.getD p 30 := rfl
      rw [h3]
      refine ⟨?_, List.mem_cons_of_mem _ h2⟩
      show (if a = V.getD p 30 then 0 else rg_pos V (V.getD p 30) + 1) = p + 1
      rw [if_neg (fun hh => hd2.1 (by rw [hh]; exact h2)), h1]
theorem rg_posM (V : List Nat) (e : Nat) : e ∈ V → rg_pos V e < V.length ∧ V.getD (rg_pos V e) 30 = e := by
  induction V with
  | nil => exact fun h => absurd h List.not_mem_nil
  | cons a V ih =>
    intro h
    by_cases ha : a = e
    · have h1 : rg_pos (a :: V) e = 0 := if_pos ha
      rw [h1]
      exact ⟨by rw [List.length_cons]; omega, ha⟩
    · have h1 : rg_pos (a :: V) e = rg_pos V e + 1 := if_neg ha
      obtain ⟨g1, g2⟩ := ih ((List.mem_cons.mp h).resolve_left (fun hh => ha hh.symm))
      rw [h1]
      exact ⟨by rw [List.length_cons]; omega, g2⟩
theorem rg_getD0 (V : List Nat) {p : Nat} (h : V.length ≤ p) : V.getD p 30 = 30 := by
  induction V generalizing p with
  | nil => rfl
  | cons a V ih =>
    rw [List.length_cons] at h
    cases p with
    | zero => omega
    | succ p => exact ih (p := p) (by omega)
section
variable {n : Nat} {fc : Int32} {sy ot tX mk up kn dl ck nx lk tY : Nat → Int32} {pa tm wh cl : Nat → Nat} {P L : Nat → List Nat} {x : Nat}
theorem rg_yst0 {post : Int32 → Prop} {v w : Int32} (hn : n ≤ 30) (h : post 0) (j : Nat) : ∀ d m : Nat, d + j = n → j < m → wY_stands_27 post v w (nI n) sy lk mk tY up kn ck m 0 (nI d) := by
  induction j with
  | zero =>
    intro d m hd hm
    obtain ⟨m, rfl⟩ : ∃ m', m = m' + 1 := ⟨m - 1, by omega⟩
    exact br_t (nI_le (by omega) (by omega)) ⟨rfl, h⟩
  | succ j ih =>
    intro d m hd hm
    obtain ⟨m, rfl⟩ : ∃ m', m = m' + 1 := ⟨m - 1, by omega⟩
    exact br_f (nI_ge (by omega) (by omega)) (br_t rfl (nm_r (nI_1 d) (ih (d + 1) m (by omega) (by omega))))
theorem rg_yst1 (V : rg_EV n sy ot tX mk up lk tY pa tm wh P) {post : Int32 → Prop} {e : Nat} {r : Bool} (hx : x < 3) (he : e < 30) (h : post (rg_i r)) (j : Nat) : ∀ d m : Nat, d + j = n → j < m →
    (r = true ↔ ∀ d', d ≤ d' → d' < n → ¬ (bt (kn x) d' = true ∧ ¬ 0 ≤ sy d' ∧ pa d' = e)) → wY_stands_27 post (nI x) (nI e) (nI n) sy lk mk tY up kn ck m 1 (nI d) := by
  have h30 := V.1
  induction j with
  | zero =>
    intro d m hd hm hr
    obtain ⟨m, rfl⟩ : ∃ m', m = m' + 1 := ⟨m - 1, by omega⟩
    have e1 : r = true := hr.mpr (fun d' h1 h2 => absurd h2 (by omega))
    rw [e1] at h
    exact br_t (nI_le (by omega) (by omega)) ⟨rfl, h⟩
  | succ j ih =>
    intro d m hd hm hr
    obtain ⟨m, rfl⟩ : ∃ m', m = m' + 1 := ⟨m - 1, by omega⟩
    have hdn : d < n := by omega
    have go : ¬ (bt (kn x) d = true ∧ ¬ 0 ≤ sy d ∧ pa d = e) → wY_stands_27 post (nI x) (nI e) (nI n) sy lk mk tY up kn ck m 1 (nI (d + 1)) := by
      intro hno
      refine ih (d + 1) m (by omega) (by omega) (hr.trans ⟨fun g d' h1 h2 => g d' (by omega) h2, fun g d' h1 h2 => ?_⟩)
      by_cases hdd : d' = d
      · rw [hdd]; exact hno
      · exact g d' (by omega) h2
    have hv : vp_in (nI d) 30 := vp_in_nI (by omega) (by decide)
    refine br_f (nI_ge (by omega) (by omega)) (br_f (by decide) (rg_yk hx hdn h30 ?_))
    cases hk : bt (kn x) d
    · exact br_t rfl (nm_r (nI_1 d) (go (fun hh => by rw [hk] at hh; exact absurd hh.1 (by decide))))
    · refine br_f (by decide) (And.intro hv ?_)
      rw [nI_clamp (n := d) (by omega)]
      by_cases hs : 0 ≤ sy d
      · exact br_t hs (nm_r (nI_1 d) (go (fun hh => hh.2.1 hs)))
      · refine br_f hs (And.intro hv ?_)
        have hp := V.2.2.2.1 d hdn hs
        have elk : lk d = nI (pa d) := by rw [(V.2.2.1 d hdn).2.1, rg_lkn hp]
        have hpb : pa d < 2 ^ 31 := by
          rcases (V.2.2.1 d hdn).2.2.2.2.1 with g | g <;> omega
        rw [elk]
        by_cases hpe : pa d = e
        · have e1 : r = false := by
            cases hrr : r
            · rfl
            · exact absurd ⟨hk, hs, hpe⟩ (hr.mp hrr d (Nat.le_refl _) hdn)
          rw [e1] at h
          exact br_t (by rw [hpe]) (nm_r (nI_1 d) (rg_yst0 h30 h j (d + 1) m (by omega) (by omega)))
        · exact br_f (fun hh => hpe ((nI_eq hpb (by omega)).mp hh)) (nm_r (nI_1 d) (go (fun hh => hpe hh.2.2)))
theorem rg_yst {dx : Int32} {c : Nat} {l : List Nat} (V : rg_EV n sy ot tX mk up lk tY pa tm wh P) (R : rg_RX n sy up pa tm (rg_K tm wh) P (kn x) dx c l) {post : Int32 → Prop} {e : Nat} (hx : x < 3) (he : e < n)
    (h : post (rg_i (decide (e ∈ l.filter (fun e => !bt dx e))))) : wpY_stands post (nI n, sy, lk, mk, tY, up, kn, ck) (nI x) (nI e) := by
  have h30 := V.1
  have hm : e ∈ l.filter (fun e => !bt dx e) ↔ (0 ≤ sy e ∧ bt (kn x) e = true) ∧ bt dx e = false := by
    rw [List.mem_filter, R.2.2.2.2.2.1 e]
    simp
  unfold wpY_stands
  dsimp only
  refine rg_yk hx he h30 ?_
  cases hk : bt (kn x) e
  · rw [decide_eq_false (fun hh => by have := (hm.mp hh).1.2; rw [hk] at this; exact absurd this (by decide))] at h
    exact br_t rfl (Exists.intro (n + 1) (rg_yst0 h30 h n 0 (n + 1) (by omega) (by omega)))
  · refine br_f (by decide) (And.intro (vp_in_nI (by omega) (by decide)) ?_)
    rw [nI_clamp (n := e) (by omega)]
    by_cases hs : sy e < 0
    · rw [decide_eq_false (fun hh => rg_nle.mpr hs (hm.mp hh).1.1)] at h
      exact br_t hs (Exists.intro (n + 1) (rg_yst0 h30 h n 0 (n + 1) (by omega) (by omega)))
    · refine br_f hs (Exists.intro (n + 1) (rg_yst1 V hx (by omega) h n 0 (n + 1) (by omega) (by omega) ?_))
      rw [decide_eq_true_eq, hm]
      constructor
      · rintro ⟨_, h2⟩ d' _ _ hd
        have := (R.2.2.2.2.1 e).mpr ⟨d', hd⟩
        rw [h2] at this
        exact absurd this (by decide)
      · intro g
        refine ⟨⟨rg_nl.mp hs, hk⟩, ?_⟩
        cases hd : bt dx e
        · rfl
        · obtain ⟨d', d1, d2⟩ := (R.2.2.2.2.1 e).mp hd
          exact absurd ⟨d1, d2⟩ (g d' (by omega) (R.2.1 d' d1))
theorem rg_yst00 {post : Int32 → Prop} {v w : Int32} (hn : n ≤ 30) (hv : v < 0 ∨ (¬ v < 0 ∧ nI n ≤ v)) (h : post 0) : wpY_stands post (nI n, sy, lk, mk, tY, up, kn, ck) w v := by
  unfold wpY_stands
  dsimp only
  exact rg_yk0 hv (br_t rfl (Exists.intro (n + 1) (rg_yst0 hn h n 0 (n + 1) (by omega) (by omega))))
/-! the text of a replica -/
theorem rg_Vnd {dx kx : Int32} {c : Nat} {l : List Nat} (R : rg_RX n sy up pa tm (rg_K tm wh) P kx dx c l) : (l.filter (fun e => !bt dx e)).Pairwise (fun a b => rg_lx (rg_K tm wh) (P a) (P b)) ∧ (l.filter (fun e => !bt dx e)).Nodup ∧ (∀ e, e ∈ l.filter (fun e => !bt dx e) → e < n ∧ 0 ≤ sy e) := by
  have h1 := (List.pairwise_cons.mp R.2.2.2.2.2.2).2.filter (fun e => !bt dx e)
  refine ⟨h1, rg_Rnd h1, fun e he => ?_⟩
  have h2 := (R.2.2.2.2.2.1 e).mp (List.mem_filter.mp he).1
  exact ⟨R.2.1 e h2.2, h2.1⟩
theorem rg_yrk1 {dx : Int32} {c : Nat} {l V1 V2 : List Nat} (V : rg_EV n sy ot tX mk up lk tY pa tm wh P) (R : rg_RX n sy up pa tm (rg_K tm wh) P (kn x) dx c l) {post : Int32 → Prop} {e : Nat} (hx : x < 3)
    (hV : l.filter (fun e => !bt dx e) = V1 ++ e :: V2) (h : post (nI V1.length)) : wpY_rank post (nI n, sy, lk, mk, tY, up, kn, ck) (nI x) (nI e) := by
  have h30 := V.1
  obtain ⟨g1, g2, g3⟩ := rg_Vnd R
  have heV : e ∈ l.filter (fun e => !bt dx e) := by rw [hV]; simp
  obtain ⟨hen, heE⟩ := g3 e heV
  have g1' := g1
  rw [hV] at g1'
  have p1 := List.pairwise_append.mp g1'
  have p2 := List.pairwise_cons.mp p1.2.1
  have g2' := g2
  rw [hV] at g2'
  have q1 := List.nodup_append.mp g2'
  have he1 : ¬ e ∈ V1 := fun hh => rg_ir _ _ (p1.2.2 e hh e List.mem_cons_self)
  have hcn : rg_cn (fun f => decide (f ∈ V1)) n = V1.length := rg_cnl V1 q1.1 (fun z hz => (g3 z (by rw [hV]; exact List.mem_append_left _ hz)).1)
  rw [← hcn] at h
  have loop : ∀ j f m : Nat, f + j = n → j < m → wY_rank_5 post (nI x) (nI e) (nI n) sy lk mk tY up kn ck m (nI (rg_cn (fun f => decide (f ∈ V1)) f)) (nI f) := by
    intro j
    induction j with
    | zero =>
      intro f m hf hm
      obtain ⟨m, rfl⟩ : ∃ m', m = m' + 1 := ⟨m - 1, by omega⟩
      have : f = n := by omega
      subst this
      exact br_t (nI_le (Nat.le_refl _) (by omega)) h
    | succ j ih =>
      intro f m hf hm
      obtain ⟨m, rfl⟩ : ∃ m', m = m' + 1 := ⟨m - 1, by omega⟩
      have hfn : f < n := by omega
      have skip : ¬ f ∈ V1 → wY_rank_5 post (nI x) (nI e) (nI n) sy lk mk tY up kn ck m (nI (rg_cn (fun f => decide (f ∈ V1)) f)) (nI (f + 1)) := by
        intro hno
        have h2 := ih (f + 1) m (by omega) (by omega)
        rw [rg_cnF (decide_eq_false hno)] at h2
        exact h2
      refine br_f (nI_ge (by omega) (by omega)) ?_
      by_cases hfe : f = e
      · exact br_t (by rw [hfe]) (nm_r (nI_1 f) (skip (by rw [hfe]; exact he1)))
      · refine br_f (fun hh => hfe ((nI_eq (by omega) (by omega)).mp hh)) (rg_yst V R hx hfn ?_)
        by_cases hfV : f ∈ l.filter (fun e => !bt dx e)
        · rw [decide_eq_true hfV]
          refine br_f (by decide) (rg_ybf (r := decide (f ∈ V1)) V hfn (g3 f hfV).2 hen heE hfe ?_ ?_)
          · rw [decide_eq_true_eq]
            constructor
            · exact fun hh => p1.2.2 f hh e List.mem_cons_self
            · intro hh
              rw [hV] at hfV
              rcases List.mem_append.mp hfV with h2 | h2
              · exact h2
              · rcases List.mem_cons.mp h2 with h3 | h3
                · exact absurd h3 hfe
                · exact (rg_as hh (p2.1 f h3)).elim
          · by_cases hf1 : f ∈ V1
            · rw [decide_eq_true hf1]
              refine br_f (by decide) (nm_r (nI_1 _) (nm_r (nI_1 f) ?_))
              have h2 := ih (f + 1) m (by omega) (by omega)
              rw [rg_cnT (decide_eq_true hf1)] at h2
              exact h2
            · rw [decide_eq_false hf1]
              exact br_t rfl (nm_r (nI_1 f) (skip hf1))
        · rw [decide_eq_false hfV]
          exact br_t rfl (nm_r (nI_1 f) (skip (fun hh => hfV (by rw [hV]; exact List.mem_append_left _ hh))))
  exact Exists.intro (n + 1) (loop n 0 (n + 1) (by omega) (by omega))
theorem rg_yrk {dx : Int32} {c : Nat} {l : List Nat} (V : rg_EV n sy ot tX mk up lk tY pa tm wh P) (R : rg_RX n sy up pa tm (rg_K tm wh) P (kn x) dx c l) {post : Int32 → Prop} {e : Nat} (hx : x < 3)
    (he : e ∈ l.filter (fun e => !bt dx e)) (h : post (nI (rg_pos (l.filter (fun e => !bt dx e)) e))) : wpY_rank post (nI n, sy, lk, mk, tY, up, kn, ck) (nI x) (nI e) := by
  obtain ⟨V1, V2, hV⟩ := List.append_of_mem he
  refine rg_yrk1 V R hx hV ?_
  have h2 : ¬ e ∈ V1 := by
    intro hh
    have g := (rg_Vnd R).1
    rw [hV] at g
    exact rg_ir _ _ ((List.pairwise_append.mp g).2.2 e hh e List.mem_cons_self)
  rw [hV, rg_posA V2 V1 h2] at h
  exact h
theorem rg_yel {dx : Int32} {c : Nat} {l : List Nat} (V : rg_EV n sy ot tX mk up lk tY pa tm wh P) (R : rg_RX n sy up pa tm (rg_K tm wh) P (kn x) dx c l) {post : Int32 → Prop} {p r : Int32} (hx : x < 3)
    (h1 : ∀ e, e ∈ l.filter (fun e => !bt dx e) → nI (rg_pos (l.filter (fun e => !bt dx e)) e) = p → r = nI e)
    (h2 : (∀ e, e ∈ l.filter (fun e => !bt dx e) → ¬ nI (rg_pos (l.filter (fun e => !bt dx e)) e) = p) → r = -1) (h : post r) : wpY_element post (nI n, sy, lk, mk, tY, up, kn, ck) (nI x) p := by
  have h30 := V.1
  obtain ⟨g1, g2, g3⟩ := rg_Vnd R
  have loop : ∀ j f m : Nat, f + j = n → j < m → (∀ e, e ∈ l.filter (fun e => !bt dx e) → e < f → ¬ nI (rg_pos (l.filter (fun e => !bt dx e)) e) = p) → wY_element_2 post (nI x) p (nI n) sy lk mk tY up kn ck m (nI f) := by
    intro j
    induction j with
    | zero =>
      intro f m hf hm hno
      obtain ⟨m, rfl⟩ : ∃ m', m = m' + 1 := ⟨m - 1, by omega⟩
      have e1 := h2 (fun e he => hno e he (by have := (g3 e he).1; omega))
      rw [e1] at h
      exact br_t (nI_le (by omega) (by omega)) h
    | succ j ih =>
      intro f m hf hm hno
      obtain ⟨m, rfl⟩ : ∃ m', m = m' + 1 := ⟨m - 1, by omega⟩
      have hfn : f < n := by omega
      refine br_f (nI_ge (by omega) (by omega)) (rg_yst V R hx hfn ?_)
      by_cases hfV : f ∈ l.filter (fun e => !bt dx e)
      · rw [decide_eq_true hfV]
        refine br_f (by decide) (rg_yrk V R hx hfV ?_)
        by_cases hp : nI (rg_pos (l.filter (fun e => !bt dx e)) f) = p
        · rw [h1 f hfV hp] at h
          exact br_t hp h
        · refine br_f hp (nm_r (nI_1 f) (ih (f + 1) m (by omega) (by omega) (fun e he hef => ?_)))
          by_cases hh : e = f
          · rw [hh]; exact hp
          · exact hno e he (by omega)
      · rw [decide_eq_false hfV]
        refine br_t rfl (nm_r (nI_1 f) (ih (f + 1) m (by omega) (by omega) (fun e he hef => ?_)))
        by_cases hh : e = f
        · rw [hh] at he; exact absurd he hfV
        · exact hno e he (by omega)
  exact Exists.intro (n + 1) (loop n 0 (n + 1) (by omega) (by omega) (fun e _ h0 => absurd h0 (Nat.not_lt_zero e)))
theorem rg_ylen {dx : Int32} {c : Nat} {l : List Nat} (V : rg_EV n sy ot tX mk up lk tY pa tm wh P) (R : rg_RX n sy up pa tm (rg_K tm wh) P (kn x) dx c l) {post : Int32 → Prop} (hx : x < 3)
    (h : post (nI (l.filter (fun e => !bt dx e)).length)) : wpY_length post (nI n, sy, lk, mk, tY, up, kn, ck) (nI x) := by
  have h30 := V.1
  obtain ⟨g1, g2, g3⟩ := rg_Vnd R
  rw [← rg_cnl _ g2 (fun z hz => (g3 z hz).1)] at h
  have loop : ∀ j f m : Nat, f + j = n → j < m → wY_length_4 post (nI x) (nI n) sy lk mk tY up kn ck m (nI (rg_cn (fun f => decide (f ∈ l.filter (fun e => !bt dx e))) f)) (nI f) := by
    intro j
    induction j with
    | zero =>
      intro f m hf hm
      obtain ⟨m, rfl⟩ : ∃ m', m = m' + 1 := ⟨m - 1, by omega⟩
      have : f = n := by omega
      subst this
      exact br_t (nI_le (Nat.le_refl _) (by omega)) (rg_yr1 hx (br_f (by decide) h))
    | succ j ih =>
      intro f m hf hm
      obtain ⟨m, rfl⟩ : ∃ m', m = m' + 1 := ⟨m - 1, by omega⟩
      have hfn : f < n := by omega
      have h2 := ih (f + 1) m (by omega) (by omega)
      refine br_f (nI_ge (by omega) (by omega)) (rg_yr1 hx (br_f (by decide) (rg_yst V R hx hfn ?_)))
      by_cases hfV : f ∈ l.filter (fun e => !bt dx e)
      · rw [decide_eq_true hfV]
        rw [rg_cnT (decide_eq_true hfV)] at h2
        exact br_f (by decide) (nm_r (nI_1 _) (nm_r (nI_1 f) h2))
      · rw [decide_eq_false hfV]
        rw [rg_cnF (decide_eq_false hfV)] at h2
        exact br_t rfl (nm_r (nI_1 f) h2)
  exact Exists.intro (n + 1) (loop n 0 (n + 1) (by omega) (by omega))
theorem rg_ylen0 {post : Int32 → Prop} {v : Int32} (hn : n ≤ 30) (hv : rg_bad v) (h : post (-1)) : wpY_length post (nI n, sy, lk, mk, tY, up, kn, ck) v := by
  have h43 : wY_length_43 post v 0 (nI n) sy lk mk tY up kn ck := rg_yr0 hv (br_t rfl h)
  refine Exists.intro 1 ?_
  by_cases h0 : n = 0
  · exact br_t (nI_le (b := 0) (by omega) (by decide)) h43
  · exact br_f (nI_ge (a := 0) (by omega) (by omega)) (rg_yr0 hv (br_t rfl h43))
end
end
section
/-! what is at a place: both sides' answers -/
def rg_ma (V : List Nat) (p : Nat) : Int32 := if p < V.length then nI (V.getD p 30) else -1
def rg_aa (sy : Nat → Int32) (V : List Nat) (p : Nat) : Int32 := if p < V.length then sy (V.getD p 30) else -1
section
variable {n : Nat} {fc : Int32} {sy ot tX mk up kn dl ck nx lk tY : Nat → Int32} {pa tm wh cl : Nat → Nat} {P L : Nat → List Nat} {x y : Nat}
theorem rg_Lb {dx kx : Int32} {c : Nat} {l : List Nat} (V : rg_EV n sy ot tX mk up lk tY pa tm wh P) (R : rg_RX n sy up pa tm (rg_K tm wh) P kx dx c l) : (∀ b, b ∈ l → b < 30) ∧ l.length ≤ 30 := by
  have h30 := V.1
  have h1 : ∀ b, b ∈ l → b < n := fun b hb => (rg_RLc V R b hb).1
  refine ⟨fun b hb => by have := h1 b hb; omega, ?_⟩
  have := rg_lenle l (List.nodup_cons.mp (rg_Rnd R.2.2.2.2.2.2)).2 h1
  omega
theorem rg_Vlen {dx kx : Int32} {c : Nat} {l : List Nat} (V : rg_EV n sy ot tX mk up lk tY pa tm wh P) (R : rg_RX n sy up pa tm (rg_K tm wh) P kx dx c l) : (l.filter (fun e => !bt dx e)).length ≤ 30 := by
  have h1 := (rg_Lb V R).2
  have h2 := List.length_filter_le (fun e => !bt dx e) l
  omega
theorem rg_xma {c p : Nat} {l : List Nat} (V : rg_EV n sy ot tX mk up lk tY pa tm wh P) (R : rg_RX n sy up pa tm (rg_K tm wh) P (kn x) (dl x) c l) {post : Int32 → Prop} (hx : x < 3) (C : rg_Cs nx x (30 :: l)) (hp : p < 2 ^ 31)
    (h : post (rg_ma (l.filter (fun e => !bt (dl x) e)) p)) : wpX_madeBy post (fc, sy, ot, tX, mk, up, kn, dl, ck, nx) (nI x) (nI p) := by
  have h30 := V.1
  unfold wpX_madeBy
  dsimp only
  refine rg_xr1 hx (br_f (by decide) (br_t (nI_pos' hp) (rg_xea hx C (rg_Lb V R).1 (rg_Lb V R).2 hp ?_)))
  obtain ⟨g1, g2, g3⟩ := rg_Vnd R
  unfold rg_ma at h
  by_cases hpl : p < (l.filter (fun e => !bt (dl x) e)).length
  · rw [if_pos hpl] at h
    have h2 := (rg_posG _ g2 p hpl).2
    have h3 := (g3 _ h2).1
    exact br_f (rg_n30 (by omega)) h
  · rw [if_neg hpl] at h
    rw [rg_getD0 _ (by omega)]
    exact br_t rfl h
theorem rg_yma {dx : Int32} {c p : Nat} {l : List Nat} (V : rg_EV n sy ot tX mk up lk tY pa tm wh P) (R : rg_RX n sy up pa tm (rg_K tm wh) P (kn x) dx c l) {post : Int32 → Prop} (hx : x < 3) (hp : p < 2 ^ 31)
    (h : post (rg_ma (l.filter (fun e => !bt dx e)) p)) : wpY_element post (nI n, sy, lk, mk, tY, up, kn, ck) (nI x) (nI p) := by
  have h30 := V.1
  have hlen := rg_Vlen V R
  obtain ⟨g1, g2, g3⟩ := rg_Vnd R
  refine rg_yel V R hx ?_ ?_ h
  · intro e he hpe
    have h1 := rg_posM _ e he
    have h2 := (nI_eq (by omega) hp).mp hpe
    unfold rg_ma
    rw [← h2, if_pos h1.1, h1.2]
  · intro hno
    unfold rg_ma
    apply if_neg
    intro hpl
    obtain ⟨h1, h2⟩ := rg_posG _ g2 p hpl
    exact hno _ h2 (by rw [h1])
theorem rg_ymn {dx : Int32} {c : Nat} {l : List Nat} {p : Int32} (V : rg_EV n sy ot tX mk up lk tY pa tm wh P) (R : rg_RX n sy up pa tm (rg_K tm wh) P (kn x) dx c l) {post : Int32 → Prop} (hx : x < 3) (hp : p < 0)
    (h : post (-1)) : wpY_element post (nI n, sy, lk, mk, tY, up, kn, ck) (nI x) p := by
  have hlen := rg_Vlen V R
  refine rg_yel V R hx ?_ (fun _ => rfl) h
  intro e he hpe
  have h1 := rg_posM _ e he
  rw [← hpe] at hp
  exact absurd hp (nI_pos (by omega))
theorem rg_maA {V : List Nat} {p : Nat} {post : Int32 → Prop} (hV : ∀ e, e ∈ V → e < 30) (hd : V.Nodup) (h : post (rg_aa sy V p)) :
    (0 ≤ rg_ma V p → (vp_in (rg_ma V p) 30 ∧ post (sy (rg_ma V p).toNatClampNeg))) ∧ (¬ 0 ≤ rg_ma V p → post (-1)) := by
  unfold rg_ma
  unfold rg_aa at h
  by_cases hpl : p < V.length
  · have h2 := hV _ (rg_posG _ hd p hpl).2
    rw [if_pos hpl] at h
    rw [if_pos hpl]
    refine br_t (nI_pos' (by omega)) ⟨vp_in_nI h2 (by decide), ?_⟩
    rw [nI_clamp (by omega)]
    exact h
  · rw [if_neg hpl] at h
    rw [if_neg hpl]
    exact br_f rg_mnot h
theorem rg_xat {c p : Nat} {l : List Nat} (V : rg_EV n sy ot tX mk up lk tY pa tm wh P) (R : rg_RX n sy up pa tm (rg_K tm wh) P (kn x) (dl x) c l) {post : Int32 → Prop} (hx : x < 3) (C : rg_Cs nx x (30 :: l)) (hp : p < 2 ^ 31)
    (h : post (rg_aa sy (l.filter (fun e => !bt (dl x) e)) p)) : wpX_at post (fc, sy, ot, tX, mk, up, kn, dl, ck, nx) (nI x) (nI p) := by
  have h30 := V.1
  unfold wpX_at
  dsimp only
  refine rg_xma V R hx C hp ?_
  exact rg_maA (fun e he => by have := ((rg_Vnd R).2.2 e he).1; omega) (rg_Vnd R).2.1 h
theorem rg_yat {dx : Int32} {c p : Nat} {l : List Nat} (V : rg_EV n sy ot tX mk up lk tY pa tm wh P) (R : rg_RX n sy up pa tm (rg_K tm wh) P (kn x) dx c l) {post : Int32 → Prop} (hx : x < 3) (hp : p < 2 ^ 31)
    (h : post (rg_aa sy (l.filter (fun e => !bt dx e)) p)) : wpY_at post (nI n, sy, lk, mk, tY, up, kn, ck) (nI x) (nI p) := by
  have h30 := V.1
  unfold wpY_at
  dsimp only
  refine rg_yr1 hx (br_f (by decide) (rg_yma V R hx hp ?_))
  exact rg_maA (fun e he => by have := ((rg_Vnd R).2.2 e he).1; omega) (rg_Vnd R).2.1 h
/-! two texts compared -/
theorem rg_xsm {c d N : Nat} {l l2 : List Nat} (V : rg_EV n sy ot tX mk up lk tY pa tm wh P) (R : rg_RX n sy up pa tm (rg_K tm wh) P (kn x) (dl x) c l) (R2 : rg_RX n sy up pa tm (rg_K tm wh) P (kn y) (dl y) d l2) {post : Int32 → Prop}
    (hx : x < 3) (hy : y < 3) (C : rg_Cs nx x (30 :: l)) (C2 : rg_Cs nx y (30 :: l2)) (hN : N ≤ 30) {r : Bool} (h : post (rg_i r)) (j : Nat) : ∀ p m : Nat, p + j = N → j < m →
    (r = true ↔ ∀ q, p ≤ q → q < N → rg_aa sy (l.filter (fun e => !bt (dl x) e)) q = rg_aa sy (l2.filter (fun e => !bt (dl y) e)) q) →
    wX_same_36 post (nI x) (nI y) (nI N) fc sy ot tX mk up kn dl ck nx m (nI p) := by
  induction j with
  | zero =>
    intro p m hpj hm hr
    obtain ⟨m, rfl⟩ : ∃ m', m = m' + 1 := ⟨m - 1, by omega⟩
    have e1 : r = true := hr.mpr (fun q h1 h2 => absurd h2 (by omega))
    rw [e1] at h
    exact br_t (nI_le (by omega) (by omega)) h
  | succ j ih =>
    intro p m hpj hm hr
    obtain ⟨m, rfl⟩ : ∃ m', m = m' + 1 := ⟨m - 1, by omega⟩
    refine br_f (nI_ge (by omega) (by omega)) (rg_xat V R hx C (by omega) (rg_xat V R2 hy C2 (by omega) ?_))
    by_cases he : rg_aa sy (l.filter (fun e => !bt (dl x) e)) p = rg_aa sy (l2.filter (fun e => !bt (dl y) e)) p
    · refine br_t he (nm_r (nI_1 p) (ih (p + 1) m (by omega) (by omega) (hr.trans ⟨fun g q h1 h2 => g q (by omega) h2, fun g q h1 h2 => ?_⟩)))
      by_cases hq : q = p
      · rw [hq]; exact he
      · exact g q (by omega) h2
    · have e1 : r = false := by
        cases hrr : r
        · rfl
        · exact absurd (hr.mp hrr p (Nat.le_refl _) (by omega)) he
      rw [e1] at h
      exact br_f he h
theorem rg_ysm0 {post : Int32 → Prop} {v w : Int32} {p m : Nat} (hp : p ≤ 30) (h : post 0) : wY_same_38 post v w fc sy lk mk tY up kn ck (m + 1) 0 (nI p) := by
  by_cases h30 : 30 ≤ p
  · exact br_t (nI_le (a := 30) h30 (by omega)) ⟨rfl, h⟩
  · exact br_f (nI_ge (b := 30) (by omega) (by decide)) (br_t rfl ⟨rfl, h⟩)
theorem rg_ysm {dx dy : Int32} {c d : Nat} {l l2 : List Nat} (V : rg_EV n sy ot tX mk up lk tY pa tm wh P) (R : rg_RX n sy up pa tm (rg_K tm wh) P (kn x) dx c l) (R2 : rg_RX n sy up pa tm (rg_K tm wh) P (kn y) dy d l2) {post : Int32 → Prop}
    (hx : x < 3) (hy : y < 3) {r : Bool} (h : post (rg_i r)) (j : Nat) : ∀ p m : Nat, p + j = 30 → j + 1 < m →
    (r = true ↔ ∀ q, p ≤ q → q < 30 → rg_aa sy (l.filter (fun e => !bt dx e)) q = rg_aa sy (l2.filter (fun e => !bt dy e)) q) →
    wY_same_38 post (nI x) (nI y) (nI n) sy lk mk tY up kn ck m 1 (nI p) := by
  induction j with
  | zero =>
    intro p m hpj hm hr
    obtain ⟨m, rfl⟩ : ∃ m', m = m' + 1 := ⟨m - 1, by omega⟩
    have e1 : r = true := hr.mpr (fun q h1 h2 => absurd h2 (by omega))
    rw [e1] at h
    exact br_t (nI_le (a := 30) (by omega) (by omega)) ⟨rfl, h⟩
  | succ j ih =>
    intro p m hpj hm hr
    obtain ⟨m, rfl⟩ : ∃ m', m = m' + 2 := ⟨m - 2, by omega⟩
    refine br_f (nI_ge (b := 30) (by omega) (by decide)) (br_f (by decide) (rg_yat V R hx (by omega) (rg_yat V R2 hy (by omega) ?_)))
    by_cases he : rg_aa sy (l.filter (fun e => !bt dx e)) p = rg_aa sy (l2.filter (fun e => !bt dy e)) p
    · refine br_t he (nm_r (nI_1 p) (ih (p + 1) (m + 1) (by omega) (by omega) (hr.trans ⟨fun g q h1 h2 => g q (by omega) h2, fun g q h1 h2 => ?_⟩)))
      by_cases hq : q = p
      · rw [hq]; exact he
      · exact g q (by omega) h2
    · have e1 : r = false := by
        cases hrr : r
        · rfl
        · exact absurd (hr.mp hrr p (Nat.le_refl _) (by omega)) he
      rw [e1] at h
      exact br_f he (nm_r (nI_1 p) (rg_ysm0 (by omega) h))
/-! the number of elements known -/
theorem rg_xelts {post : Int32 → Prop} (hx : x < 3) (hn : n ≤ 30) (h : post (nI (rg_cn (fun e => bt (kn x) e && decide (¬ sy e < 0)) n))) (j : Nat) : ∀ f m : Nat, f + j = n → j < m →
    wX_elements_13 post (nI x) (nI n) sy ot tX mk up kn dl ck nx m (nI (rg_cn (fun e => bt (kn x) e && decide (¬ sy e < 0)) f)) (nI f) := by
  induction j with
  | zero =>
    intro f m hf hm
    obtain ⟨m, rfl⟩ : ∃ m', m = m' + 1 := ⟨m - 1, by omega⟩
    have : f = n := by omega
    subst this
    exact br_t (nI_le (Nat.le_refl _) (by omega)) h
  | succ j ih =>
    intro f m hf hm
    obtain ⟨m, rfl⟩ : ∃ m', m = m' + 1 := ⟨m - 1, by omega⟩
    have h2 := ih (f + 1) m (by omega) (by omega)
    refine br_f (nI_ge (by omega) (by omega)) (rg_xk hx (by omega) ?_)
    cases hk : bt (kn x) f
    · rw [rg_cnF (by rw [hk]; rfl)] at h2
      exact br_t rfl (nm_r (Int32.add_zero _) (nm_r (nI_1 f) h2))
    · refine br_f (by decide) (And.intro (vp_in_nI (by omega) (by decide)) ?_)
      rw [nI_clamp (n := f) (by omega)]
      by_cases hs : sy f < 0
      · rw [rg_cnF (by rw [hk, decide_eq_false (fun z => z hs)]; rfl)] at h2
        exact br_t hs (nm_r (Int32.add_zero _) (nm_r (nI_1 f) h2))
      · rw [rg_cnT (by rw [hk, decide_eq_true hs]; rfl)] at h2
        exact br_f hs (nm_r (nI_1 _) (nm_r (nI_1 f) h2))
theorem rg_yelts {post : Int32 → Prop} (hx : x < 3) (hn : n ≤ 30) (h : post (nI (rg_cn (fun e => bt (kn x) e && decide (¬ sy e < 0)) n))) (j : Nat) : ∀ f m : Nat, f + j = n → j < m →
    wY_elements_4 post (nI x) (nI n) sy lk mk tY up kn ck m (nI (rg_cn (fun e => bt (kn x) e && decide (¬ sy e < 0)) f)) (nI f) := by
  induction j with
  | zero =>
    intro f m hf hm
    obtain ⟨m, rfl⟩ : ∃ m', m = m' + 1 := ⟨m - 1, by omega⟩
    have : f = n := by omega
    subst this
    exact br_t (nI_le (Nat.le_refl _) (by omega)) (rg_yr1 hx (br_f (by decide) h))
  | succ j ih =>
    intro f m hf hm
    obtain ⟨m, rfl⟩ : ∃ m', m = m' + 1 := ⟨m - 1, by omega⟩
    have h2 := ih (f + 1) m (by omega) (by omega)
    refine br_f (nI_ge (by omega) (by omega)) (rg_yr1 hx (br_f (by decide) (rg_yk hx (by omega) hn ?_)))
    cases hk : bt (kn x) f
    · rw [rg_cnF (by rw [hk]; rfl)] at h2
      exact br_t rfl (nm_r (nI_1 f) h2)
    · refine br_f (by decide) (And.intro (vp_in_nI (by omega) (by decide)) ?_)
      rw [nI_clamp (n := f) (by omega)]
      by_cases hs : sy f < 0
      · rw [rg_cnF (by rw [hk, decide_eq_false (fun z => z hs)]; rfl)] at h2
        exact br_t hs (nm_r (nI_1 f) h2)
      · rw [rg_cnT (by rw [hk, decide_eq_true hs]; rfl)] at h2
        exact br_f hs (nm_r (nI_1 _) (nm_r (nI_1 f) h2))
theorem rg_yelts0 {post : Int32 → Prop} {v : Int32} (hn : n ≤ 30) (hv : rg_bad v) (h : post (-1)) : wpY_elements post (nI n, sy, lk, mk, tY, up, kn, ck) v := by
  have h52 : wY_elements_52 post v 0 (nI n) sy lk mk tY up kn ck := rg_yr0 hv (br_t rfl h)
  refine Exists.intro 1 ?_
  by_cases h0 : n = 0
  · exact br_t (nI_le (b := 0) (by omega) (by decide)) h52
  · exact br_f (nI_ge (a := 0) (by omega) (by omega)) (rg_yr0 hv (br_t rfl h52))
end
end
section
/-! the relation, and the steps that store: both sides in one stride -/
/-- both states hold the same events; the component's chains are the elements known, in the reference's order -/
def i_Rel (k : Nat) (u : SX) (v : SY) : Prop :=
  ∃ (n : Nat) (sy ot tX mk up kn dl ck nx lk tY : Nat → Int32) (pa tm wh cl : Nat → Nat) (P L : Nat → List Nat),
    u = (nI n, sy, ot, tX, mk, up, kn, dl, ck, nx) ∧ v = (nI n, sy, lk, mk, tY, up, kn, ck) ∧ rg_IV n sy ot tX mk up kn dl ck nx lk tY pa tm wh cl P L
theorem rg_el {k : Nat} {u : SX} {v : SY} {Q : SX → SY → Prop}
    (h : ∀ (n : Nat) (sy ot tX mk up kn dl ck nx lk tY : Nat → Int32) (pa tm wh cl : Nat → Nat) (P L : Nat → List Nat), rg_IV n sy ot tX mk up kn dl ck nx lk tY pa tm wh cl P L →
      Q (nI n, sy, ot, tX, mk, up, kn, dl, ck, nx) (nI n, sy, lk, mk, tY, up, kn, ck)) (I : i_Rel k u v) : Q u v := by
  obtain ⟨n, sy, ot, tX, mk, up, kn, dl, ck, nx, lk, tY, pa, tm, wh, cl, P, L, rfl, rfl, H⟩ := I
  exact h n sy ot tX mk up kn dl ck nx lk tY pa tm wh cl P L H
section
variable {n : Nat} {fc : Int32} {sy ot tX mk up kn dl ck nx lk tY : Nat → Int32} {pa tm wh cl : Nat → Nat} {P L : Nat → List Nat} {x y : Nat}
theorem rg_mk (k : Nat) (H : rg_IV n sy ot tX mk up kn dl ck nx lk tY pa tm wh cl P L) : i_Rel k (nI n, sy, ot, tX, mk, up, kn, dl, ck, nx) (nI n, sy, lk, mk, tY, up, kn, ck) :=
  ⟨n, sy, ot, tX, mk, up, kn, dl, ck, nx, lk, tY, pa, tm, wh, cl, P, L, rfl, rfl, H⟩
/-- a new event, and its maker takes it -/
theorem rg_make (I : rg_IV n sy ot tX mk up kn dl ck nx lk tY pa tm wh cl P L) (hn : n < 30) (hx : x < 3) {s a b : Int32} {p t : Nat}
    (hp : p = 30 ∨ (p < n ∧ 0 ≤ sy p ∧ bt (kn x) p = true)) (hs : ¬ 0 ≤ s → p ≠ 30) (ht : 0 ≤ s → t = cl x + 1 ∧ a = nI t ∧ b = nI t) :
    ∃ dl' nx', (∀ k, i_Rel k (nI (n + 1), upd sy n s, upd ot n (nI p), upd tX n a, upd mk n (nI x), upd up n (kn x), upd kn x (kn x ||| ((1 : Int32) <<< (nI n &&& 31))), dl', upd ck x (nI (rg_nc s (cl x) t)), nx')
        (nI (n + 1), upd sy n s, upd lk n (rg_lk p), upd mk n (nI x), upd tY n b, upd up n (kn x), upd kn x (kn x ||| ((1 : Int32) <<< (nI n &&& 31))), upd ck x (nI (rg_nc s (cl x) t)))) ∧
      ∀ post : SX → Prop, post (nI (n + 1), upd sy n s, upd ot n (nI p), upd tX n a, upd mk n (nI x), upd up n (kn x), upd kn x (kn x ||| ((1 : Int32) <<< (nI n &&& 31))), dl', upd ck x (nI (rg_nc s (cl x) t)), nx') →
        wpX_take post (nI (n + 1), upd sy n s, upd ot n (nI p), upd tX n a, upd mk n (nI x), upd up n (kn x), kn, dl, ck, nx) (nI x) (nI n) := by
  obtain ⟨V, A, W⟩ := I
  obtain ⟨Rx, ckx, Cx⟩ := A x hx
  have V' := rg_addE V hn hx Rx (fun e he hw => W x e hx he hw) hp hs ht
  have A' : ∀ z, z < 3 → rg_RX (n + 1) (upd sy n s) (upd up n (kn x)) (rg_up pa n p) (rg_up tm n t) (rg_K (rg_up tm n t) (rg_up wh n x)) (rg_up P n (P p ++ [n])) (kn z) (dl z) (cl z) (L z) ∧ ck z = nI (cl z) ∧ rg_Cs nx z (30 :: L z) := by
    intro z hz
    obtain ⟨a1, a2, a3⟩ := A z hz
    exact ⟨rg_addR V hn a1, a2, a3⟩
  have hkn : bt (kn x) n = false := by
    cases hb : bt (kn x) n
    · rfl
    · exact absurd (Rx.2.1 n hb) (Nat.lt_irrefl n)
  obtain ⟨dl', nx', l', H, hw⟩ := rg_xtake (fc := nI (n + 1)) (e := n) (x := x) V' A' (by
    intro z e' hz he' hwz
    by_cases hen : e' = n
    · subst hen
      rw [rg_ups] at hwz
      exact Or.inr ⟨hwz.symm, rfl⟩
    · rw [rg_upn hen] at hwz
      exact Or.inl (W z e' hz (by omega) hwz)) hx (Nat.lt_succ_self n) hkn (by rw [pk_us]; exact fun i hi => hi)
  rw [pk_us, rg_ups] at H
  rw [pk_us, rg_ups] at hw
  exact ⟨dl', nx', fun k => rg_mk k H, hw⟩
theorem rg_xmake {post : Int32 → SX → Prop} {s z : Int32} {p : Nat} {dl' nx' kn' ck' : Nat → Int32} (hn : n < 30) (hx : x < 3) (hp : p ≤ 30) (hs : vp_nar .byte s.toInt8.toInt32 = s) (hz : vp_nar .byte z.toInt8.toInt32 = z)
    (hz1 : 0 ≤ s → z = ck x + 1) (hz2 : ¬ 0 ≤ s → z = 0)
    (hw : ∀ post : SX → Prop, post (nI (n + 1), upd sy n s, upd ot n (nI p), upd tX n z, upd mk n (nI x), upd up n (kn x), kn', dl', ck', nx') →
        wpX_take post (nI (n + 1), upd sy n s, upd ot n (nI p), upd tX n z, upd mk n (nI x), upd up n (kn x), kn, dl, ck, nx) (nI x) (nI n))
    (h : post (nI n) (nI (n + 1), upd sy n s, upd ot n (nI p), upd tX n z, upd mk n (nI x), upd up n (kn x), kn', dl', ck', nx')) :
    wpX_make post (nI n, sy, ot, tX, mk, up, kn, dl, ck, nx) (nI x) s (nI p) := by
  have hv : vp_in (nI n) 30 := vp_in_nI hn (by decide)
  have hv3 : vp_in (nI x) 3 := vp_in_nI hx (by decide)
  have h68 : wX_make_68 post (nI x) (nI n) z (nI n) (nI n) (upd sy n s) (upd ot n (nI p)) tX (upd mk n (nI x)) (upd up n (kn x)) kn dl ck nx := by
    unfold wX_make_68
    rw [nI_clamp (n := n) (by omega), hz]
    exact ⟨hv, nm_e (nm_r (nI_1 n) (hw _ h))⟩
  unfold wpX_make
  dsimp only
  rw [nI_clamp (n := n) (by omega), nI_clamp (n := x) (by omega), hs, rg_nar2 (a := p) (by omega), rg_nar2 (a := x) (by omega)]
  refine ⟨hv, nm_e ⟨hv, nm_e ⟨hv, nm_e ⟨hv3, hv, nm_e ?_⟩⟩⟩⟩
  by_cases h0 : 0 ≤ s
  · rw [hz1 h0] at h68
    exact br_t h0 ⟨hv3, h68⟩
  · rw [hz2 h0] at h68
    exact br_f h0 h68
theorem rg_ynote {post : Int32 → SY → Prop} {s w : Int32} (hn : n < 30) (hx : x < 3)
    (h : post (nI n) (nI (n + 1), upd sy n s, upd lk n w, upd mk n (nI x), upd tY n (ck x), upd up n (kn x), upd kn x (kn x ||| ((1 : Int32) <<< (nI n &&& 31))), ck)) :
    wpY_note post (nI n, sy, lk, mk, tY, up, kn, ck) (nI x) s w := by
  have hv : vp_in (nI n) 30 := vp_in_nI hn (by decide)
  have hv3 : vp_in (nI x) 3 := vp_in_nI hx (by decide)
  unfold wpY_note
  dsimp only
  rw [nI_clamp (n := n) (by omega), nI_clamp (n := x) (by omega)]
  refine ⟨hv, nm_e ⟨hv, nm_e ⟨hv, nm_e ⟨hv3, hv, nm_e ⟨hv3, hv, nm_e ⟨hv3, hv3, nm_e (nm_r (nI_1 n) ?_)⟩⟩⟩⟩⟩⟩
  rw [nI_pred]
  exact h
theorem rg_yput {post : Int32 → SY → Prop} {s w : Int32} (hn : n < 30) (hx : x < 3) (hck : ck x = nI (cl x))
    (h : post (nI n) (nI (n + 1), upd sy n s, upd lk n w, upd mk n (nI x), upd tY n (nI (cl x + 1)), upd up n (kn x), upd kn x (kn x ||| ((1 : Int32) <<< (nI n &&& 31))), upd ck x (nI (cl x + 1)))) :
    wY_put_61 post (nI x) s w (nI n) sy lk mk tY up kn ck := by
  have hv3 : vp_in (nI x) 3 := vp_in_nI hx (by decide)
  unfold wY_put_61
  rw [nI_clamp (n := x) (by omega), hck, nI_1]
  refine ⟨hv3, hv3, nm_e (rg_ynote hn hx ?_)⟩
  rw [pk_us]
  exact h
theorem rg_yraise {post : SY → Prop} {e : Nat} (V : rg_EV n sy ot tX mk up lk tY pa tm wh P) (hx : x < 3) (he : e < n) (hck : ck x = nI (cl x)) (hcl : cl x ≤ n)
    (h : post (fc, sy, lk, mk, tY, up, upd kn x (kn x ||| ((1 : Int32) <<< (nI e &&& 31))), upd ck x (nI (rg_nc (sy e) (cl x) (tm e))))) :
    wpY_raise post (fc, sy, lk, mk, tY, up, kn, ck) (nI x) (nI e) := by
  have h30 := V.1
  have hv : vp_in (nI e) 30 := vp_in_nI (by omega) (by decide)
  have hv3 : vp_in (nI x) 3 := vp_in_nI hx (by decide)
  unfold wpY_raise
  dsimp only
  rw [nI_clamp (n := x) (by omega), nI_clamp (n := e) (by omega), hck]
  refine ⟨hv3, hv3, nm_e ⟨hv, ?_⟩⟩
  unfold rg_nc at h
  by_cases hs : sy e < 0
  · rw [if_neg (fun hh => rg_nle.mpr hs hh.1)] at h
    exact br_t hs ⟨hv3, hv3, nm_e h⟩
  · have hE : 0 ≤ sy e := rg_nl.mp hs
    obtain ⟨_, ty, ty2, _⟩ := V.2.2.2.2.1 e he hE
    rw [ty]
    refine br_f hs ⟨hv, hv3, ?_⟩
    by_cases hc : tm e ≤ cl x
    · rw [if_neg (fun hh => by omega)] at h
      exact br_t (nI_le hc (by omega)) ⟨hv3, hv3, nm_e h⟩
    · rw [if_pos ⟨hE, by omega⟩] at h
      exact br_f (nI_ge (by omega) (by omega)) ⟨hv, hv3, nm_e h⟩
/-- one event taken by both -/
theorem rg_step (I : rg_IV n sy ot tX mk up kn dl ck nx lk tY pa tm wh cl P L) {e : Nat} (hx : x < 3) (he : e < n) (hk : bt (kn x) e = false) (hu : ∀ i, bt (up e) i = true → bt (kn x) i = true) :
    ∃ dl' ck' nx' cl' L', rg_IV n sy ot tX mk up (upd kn x (kn x ||| ((1 : Int32) <<< (nI e &&& 31)))) dl' ck' nx' lk tY pa tm wh cl' P L' ∧
      (∀ post : SX → Prop, post (nI n, sy, ot, tX, mk, up, upd kn x (kn x ||| ((1 : Int32) <<< (nI e &&& 31))), dl', ck', nx') → wpX_take post (nI n, sy, ot, tX, mk, up, kn, dl, ck, nx) (nI x) (nI e)) ∧
      (∀ post : SY → Prop, post (nI n, sy, lk, mk, tY, up, upd kn x (kn x ||| ((1 : Int32) <<< (nI e &&& 31))), ck') → wpY_raise post (nI n, sy, lk, mk, tY, up, kn, ck) (nI x) (nI e)) := by
  obtain ⟨V, A, W⟩ := I
  obtain ⟨Rx, ckx, Cx⟩ := A x hx
  obtain ⟨dl', nx', l', H, hw⟩ := rg_xtake (fc := nI n) V A (fun z e' hz he' hwz => Or.inl (W z e' hz he' hwz)) hx he hk hu
  exact ⟨dl', _, nx', _, _, H, hw, fun post h => rg_yraise V hx he ckx Rx.1 h⟩
end
/-- the two loops that catch up, in one stride -/
theorem rg_cu {n : Nat} {sy ot tX mk up lk tY : Nat → Int32} {pa tm wh : Nat → Nat} {P : Nat → List Nat} {x y : Nat} (hx : x < 3) (hy : y < 3) (hxy : y ≠ x) (j : Nat) :
    ∀ (kn dl ck nx : Nat → Int32) (cl : Nat → Nat) (L : Nat → List Nat) (e c : Nat), rg_IV n sy ot tX mk up kn dl ck nx lk tY pa tm wh cl P L → e + j = n → (∀ i, i < e → bt (kn y) i = true → bt (kn x) i = true) →
    ∃ (r : Int32) (u' : SX) (v' : SY), (∀ k, i_Rel k u' v') ∧
      (∀ (post : Int32 → SX → Prop) (m : Nat), j < m → post r u' → wX_catchUp_26 post (nI x) (nI y) m (nI c) (nI e) (nI n) sy ot tX mk up kn dl ck nx) ∧
      (∀ (post : Int32 → SY → Prop) (m : Nat), j < m → post r v' → wY_catchUp_28 post (nI x) (nI y) m (nI c) (nI e) (nI n) sy lk mk tY up kn ck) := by
  induction j with
  | zero =>
    intro kn dl ck nx cl L e c I hej hi
    have h30 := I.1.1
    refine ⟨nI c, _, _, fun k => rg_mk k I, ?_, ?_⟩
    · intro post m hm h
      obtain ⟨m, rfl⟩ : ∃ m', m = m' + 1 := ⟨m - 1, by omega⟩
      exact br_t (nI_le (by omega) (by omega)) h
    · intro post m hm h
      obtain ⟨m, rfl⟩ : ∃ m', m = m' + 1 := ⟨m - 1, by omega⟩
      exact br_t (nI_le (by omega) (by omega)) h
  | succ j ih =>
    intro kn dl ck nx cl L e c I hej hi
    have h30 := I.1.1
    have hen : e < n := by omega
    cases hky : bt (kn y) e
    · obtain ⟨r, u', v', h1, h2, h3⟩ := ih kn dl ck nx cl L (e + 1) c I (by omega) (fun i hie hb => by
        by_cases hh : i = e
        · rw [hh, hky] at hb; exact absurd hb (by decide)
        · exact hi i (by omega) hb)
      refine ⟨r, u', v', h1, ?_, ?_⟩
      · intro post m hm h
        obtain ⟨m, rfl⟩ : ∃ m', m = m' + 1 := ⟨m - 1, by omega⟩
        refine br_f (nI_ge (by omega) (by omega)) (rg_xk hy (by omega) ?_)
        rw [hky]
        exact br_t rfl (nm_r (nI_1 e) (h2 post m (by omega) h))
      · intro post m hm h
        obtain ⟨m, rfl⟩ : ∃ m', m = m' + 1 := ⟨m - 1, by omega⟩
        refine br_f (nI_ge (by omega) (by omega)) (rg_yk hy hen h30 ?_)
        rw [hky]
        exact br_t rfl (nm_r (nI_1 e) (h3 post m (by omega) h))
    · cases hkx : bt (kn x) e
      · obtain ⟨Ry, _, _⟩ := I.2.1 y hy
        obtain ⟨dl', ck', nx', cl', L', H, w1, w2⟩ := rg_step I hx hen hkx (fun i hib => hi i ((I.1.2.2.1 e hen).2.2.2.2.2 i hib) (Ry.2.2.1 e hky i hib))
        obtain ⟨r, u', v', h1, h2, h3⟩ := ih _ dl' ck' nx' cl' L' (e + 1) (c + 1) H (by omega) (fun i hie hb => by
          rw [pk_un hxy] at hb
          rw [pk_us, rg_setT _ (by omega)]
          by_cases hh : i = e
          · exact Or.inr hh
          · exact Or.inl (hi i (by omega) hb))
        refine ⟨r, u', v', h1, ?_, ?_⟩
        · intro post m hm h
          obtain ⟨m, rfl⟩ : ∃ m', m = m' + 1 := ⟨m - 1, by omega⟩
          refine br_f (nI_ge (by omega) (by omega)) (rg_xk hy (by omega) ?_)
          rw [hky]
          refine br_f (by decide) (rg_xk hx (by omega) ?_)
          rw [hkx]
          exact br_t rfl (w1 _ (nm_r (nI_1 c) (nm_r (nI_1 e) (h2 post m (by omega) h))))
        · intro post m hm h
          obtain ⟨m, rfl⟩ : ∃ m', m = m' + 1 := ⟨m - 1, by omega⟩
          refine br_f (nI_ge (by omega) (by omega)) (rg_yk hy hen h30 ?_)
          rw [hky]
          refine br_f (by decide) (rg_yk hx hen h30 ?_)
          rw [hkx]
          exact br_t rfl (w2 _ (nm_r (nI_1 c) (nm_r (nI_1 e) (h3 post m (by omega) h))))
      · obtain ⟨r, u', v', h1, h2, h3⟩ := ih kn dl ck nx cl L (e + 1) c I (by omega) (fun i hie hb => by
          by_cases hh : i = e
          · rw [hh]; exact hkx
          · exact hi i (by omega) hb)
        refine ⟨r, u', v', h1, ?_, ?_⟩
        · intro post m hm h
          obtain ⟨m, rfl⟩ : ∃ m', m = m' + 1 := ⟨m - 1, by omega⟩
          refine br_f (nI_ge (by omega) (by omega)) (rg_xk hy (by omega) ?_)
          rw [hky]
          refine br_f (by decide) (rg_xk hx (by omega) ?_)
          rw [hkx]
          exact br_f (by decide) (nm_r (nI_1 e) (h2 post m (by omega) h))
        · intro post m hm h
          obtain ⟨m, rfl⟩ : ∃ m', m = m' + 1 := ⟨m - 1, by omega⟩
          refine br_f (nI_ge (by omega) (by omega)) (rg_yk hy hen h30 ?_)
          rw [hky]
          refine br_f (by decide) (rg_yk hx hen h30 ?_)
          rw [hkx]
          exact br_f (by decide) (nm_r (nI_1 e) (h3 post m (by omega) h))
end
section
/-! what is owed -/
theorem i_up {k : Nat} {u : SX} {v : SY} (h : i_Rel k u v) : i_Rel (k + 4) u v := h
theorem rg_ini {post : SX → Prop} {f : Int32} {a b c d e g h' i nx : Nat → Int32} {m j : Nat} (hj : j < 3)
    (h : wX_init_75 post f m (nI (j + 1)) a b c d e g h' i (upd nx (j * 31 + 30) (nI 30))) : wX_init_75 post f (m + 1) (nI j) a b c d e g h' i nx := by
  refine br_f (nI_ge (b := 3) hj (by decide)) (And.intro (rg_ixi (a := 30) hj (by omega)) (nm_r (e' := upd nx (j * 31 + 30) (nI 30)) ?_ (nm_r (nI_1 j) h)))
  have h1 : ((nI j * 31) + 30).toNatClampNeg = j * 31 + 30 := rg_ixc (a := 30) hj (by omega)
  have h2 : vp_nar .byte 30 = nI 30 := rg_nar (a := 30) (by omega)
  rw [h1, h2]
theorem rg_IV0 : rg_IV 0 (fun _ => 0) (fun _ => 0) (fun _ => 0) (fun _ => 0) (fun _ => 0) (fun _ => 0) (fun _ => 0) (fun _ => 0) (upd (upd (upd (fun _ => 0) (0 * 31 + 30) (nI 30)) (1 * 31 + 30) (nI 30)) (2 * 31 + 30) (nI 30)) (fun _ => 0) (fun _ => 0)
    (fun _ => 0) (fun _ => 0) (fun _ => 0) (fun _ => 0) (fun _ => []) (fun _ => []) := by
  refine ⟨⟨by omega, rfl, fun e he => absurd he (Nat.not_lt_zero e), fun e he => absurd he (Nat.not_lt_zero e), fun e he _ => absurd he (Nat.not_lt_zero e), fun e f he => absurd he (Nat.not_lt_zero e)⟩, fun x hx => ⟨⟨Nat.le_refl _, ?_, ?_, ?_, ?_, ?_, ?_⟩, rfl, rg_Cc.mpr ⟨?_, True.intro⟩⟩, fun x e _ he => absurd he (Nat.not_lt_zero e)⟩
  · intro i hi
    rw [b_0] at hi
    exact absurd hi (by decide)
  · intro i hi
    rw [b_0] at hi
    exact absurd hi (by decide)
  · intro i _ hi
    rw [b_0] at hi
    exact absurd hi (by decide)
  · intro i
    constructor
    · intro hi
      rw [b_0] at hi
      exact absurd hi (by decide)
    · rintro ⟨d, hd, _⟩
      rw [b_0] at hd
      exact absurd hd (by decide)
  · intro e
    constructor
    · exact fun he => absurd he List.not_mem_nil
    · rintro ⟨_, he⟩
      rw [b_0] at he
      exact absurd he (by decide)
  · exact List.pairwise_singleton _ _
  · have hc : x = 0 ∨ x = 1 ∨ x = 2 := by omega
    rcases hc with hc | hc | hc
    · subst hc; rfl
    · subst hc; rfl
    · subst hc; rfl
theorem i_vc0 : wpX_init (fun u => wpY_init (fun v => i_Rel 0 u v)) :=
  Exists.intro 4 (rg_ini (j := 0) (by omega) (rg_ini (j := 1) (by omega) (rg_ini (j := 2) (by omega) (br_t (nI_le (a := 3) (b := 3) (by omega) (by decide)) (rg_mk 0 rg_IV0)))))
theorem i_vc_events {k : Nat} {u : SX} {v : SY} (I : i_Rel k u v) (hk : k + 4 ≤ 2048) : wpX_events (fun r => wpY_events (fun r' => r' = r ∧ i_Rel (k + 4) u v) v) u := by
  refine rg_el (Q := fun u v => wpX_events (fun r => wpY_events (fun r' => r' = r ∧ i_Rel (k + 4) u v) v) u) ?_ I
  intro n sy ot tX mk up kn dl ck nx lk tY pa tm wh cl P L H
  exact And.intro rfl (rg_mk _ H)
theorem i_vc_known {k : Nat} {u : SX} {v : SY} (I : i_Rel k u v) (hk : k + 4 ≤ 2048) (v1 : Int32) : wpX_known (fun r => wpY_known (fun r' => r' = r ∧ i_Rel (k + 4) u v) v v1) u v1 := by
  refine rg_el (Q := fun u v => wpX_known (fun r => wpY_known (fun r' => r' = r ∧ i_Rel (k + 4) u v) v v1) u v1) ?_ I
  intro n sy ot tX mk up kn dl ck nx lk tY pa tm wh cl P L H
  have J := rg_mk (k + 4) H
  unfold wpX_known wpY_known
  dsimp only
  rcases rg_rep v1 with hb | ⟨x, hx, rfl⟩
  · exact rg_xr0 hb (br_t rfl (rg_yr0 hb (br_t rfl ⟨rfl, J⟩)))
  · have hv : vp_in (nI x) 3 := vp_in_nI hx (by decide)
    exact rg_xr1 hx (br_f (by decide) ⟨hv, rg_yr1 hx (br_f (by decide) ⟨hv, rfl, J⟩)⟩)
theorem i_vc_clock {k : Nat} {u : SX} {v : SY} (I : i_Rel k u v) (hk : k + 4 ≤ 2048) (v1 : Int32) : wpX_clock (fun r => wpY_clock (fun r' => r' = r ∧ i_Rel (k + 4) u v) v v1) u v1 := by
  refine rg_el (Q := fun u v => wpX_clock (fun r => wpY_clock (fun r' => r' = r ∧ i_Rel (k + 4) u v) v v1) u v1) ?_ I
  intro n sy ot tX mk up kn dl ck nx lk tY pa tm wh cl P L H
  have J := rg_mk (k + 4) H
  unfold wpX_clock wpY_clock
  dsimp only
  rcases rg_rep v1 with hb | ⟨x, hx, rfl⟩
  · exact rg_xr0 hb (br_t rfl (rg_yr0 hb (br_t rfl ⟨rfl, J⟩)))
  · have hv : vp_in (nI x) 3 := vp_in_nI hx (by decide)
    exact rg_xr1 hx (br_f (by decide) ⟨hv, rg_yr1 hx (br_f (by decide) ⟨hv, rfl, J⟩)⟩)
theorem i_vc_length {k : Nat} {u : SX} {v : SY} (I : i_Rel k u v) (hk : k + 4 ≤ 2048) (v1 : Int32) : wpX_length (fun r => wpY_length (fun r' => r' = r ∧ i_Rel (k + 4) u v) v v1) u v1 := by
  refine rg_el (Q := fun u v => wpX_length (fun r => wpY_length (fun r' => r' = r ∧ i_Rel (k + 4) u v) v v1) u v1) ?_ I
  intro n sy ot tX mk up kn dl ck nx lk tY pa tm wh cl P L H
  have J := rg_mk (k + 4) H
  obtain ⟨V, A, W⟩ := H
  rcases rg_rep v1 with hb | ⟨x, hx, rfl⟩
  · unfold wpX_length
    dsimp only
    exact rg_xr0 hb (br_t rfl (rg_ylen0 V.1 hb ⟨rfl, J⟩))
  · obtain ⟨R, _, C⟩ := A x hx
    exact rg_xlen hx C (rg_Lb V R).1 (rg_Lb V R).2 (rg_ylen V R hx ⟨rfl, J⟩)
theorem i_vc_madeBy {k : Nat} {u : SX} {v : SY} (I : i_Rel k u v) (hk : k + 4 ≤ 2048) (v1 : Int32) (v2 : Int32) : wpX_madeBy (fun r => wpY_madeBy (fun r' => r' = r ∧ i_Rel (k + 4) u v) v v1 v2) u v1 v2 := by
  refine rg_el (Q := fun u v => wpX_madeBy (fun r => wpY_madeBy (fun r' => r' = r ∧ i_Rel (k + 4) u v) v v1 v2) u v1 v2) ?_ I
  intro n sy ot tX mk up kn dl ck nx lk tY pa tm wh cl P L H
  have J := rg_mk (k + 4) H
  obtain ⟨V, A, W⟩ := H
  rcases rg_rep v1 with hb | ⟨x, hx, rfl⟩
  · unfold wpX_madeBy wpY_madeBy
    dsimp only
    exact rg_xr0 hb (br_t rfl (rg_yr0 hb (br_t rfl ⟨rfl, J⟩)))
  · obtain ⟨R, _, C⟩ := A x hx
    by_cases h0 : v2 < 0
    · unfold wpX_madeBy wpY_madeBy
      dsimp only
      exact rg_xr1 hx (br_f (by decide) (br_f (rg_nle.mpr h0) (rg_yr1 hx (br_f (by decide) (rg_ymn V R hx h0 ⟨rfl, J⟩)))))
    · obtain ⟨p, hp, rfl⟩ := nI_of h0
      refine rg_xma V R hx C hp ?_
      unfold wpY_madeBy
      dsimp only
      exact rg_yr1 hx (br_f (by decide) (rg_yma V R hx hp ⟨rfl, J⟩))
theorem i_vc_at {k : Nat} {u : SX} {v : SY} (I : i_Rel k u v) (hk : k + 4 ≤ 2048) (v1 : Int32) (v2 : Int32) : wpX_at (fun r => wpY_at (fun r' => r' = r ∧ i_Rel (k + 4) u v) v v1 v2) u v1 v2 := by
  refine rg_el (Q := fun u v => wpX_at (fun r => wpY_at (fun r' => r' = r ∧ i_Rel (k + 4) u v) v v1 v2) u v1 v2) ?_ I
  intro n sy ot tX mk up kn dl ck nx lk tY pa tm wh cl P L H
  have J := rg_mk (k + 4) H
  obtain ⟨V, A, W⟩ := H
  rcases rg_rep v1 with hb | ⟨x, hx, rfl⟩
  · unfold wpX_at wpX_madeBy wpY_at
    dsimp only
    exact rg_xr0 hb (br_t rfl (br_f rg_mnot (rg_yr0 hb (br_t rfl (br_f rg_mnot ⟨rfl, J⟩)))))
  · obtain ⟨R, _, C⟩ := A x hx
    by_cases h0 : v2 < 0
    · unfold wpX_at wpX_madeBy wpY_at
      dsimp only
      exact rg_xr1 hx (br_f (by decide) (br_f (rg_nle.mpr h0) (br_f rg_mnot (rg_yr1 hx (br_f (by decide) (rg_ymn V R hx h0 (br_f rg_mnot ⟨rfl, J⟩)))))))
    · obtain ⟨p, hp, rfl⟩ := nI_of h0
      exact rg_xat V R hx C hp (rg_yat V R hx hp ⟨rfl, J⟩)
theorem i_vc_placeOf {k : Nat} {u : SX} {v : SY} (I : i_Rel k u v) (hk : k + 4 ≤ 2048) (v1 : Int32) (v2 : Int32) : wpX_placeOf (fun r => wpY_placeOf (fun r' => r' = r ∧ i_Rel (k + 4) u v) v v1 v2) u v1 v2 := by
  refine rg_el (Q := fun u v => wpX_placeOf (fun r => wpY_placeOf (fun r' => r' = r ∧ i_Rel (k + 4) u v) v v1 v2) u v1 v2) ?_ I
  intro n sy ot tX mk up kn dl ck nx lk tY pa tm wh cl P L H
  have J := rg_mk (k + 4) H
  obtain ⟨V, A, W⟩ := H
  have h30 := V.1
  unfold wpX_placeOf wpY_placeOf
  dsimp only
  rcases rg_rep v1 with hb | ⟨x, hx, rfl⟩
  · exact rg_xr0 hb (br_t rfl (rg_yr0 hb (br_t rfl ⟨rfl, J⟩)))
  · obtain ⟨R, _, C⟩ := A x hx
    refine rg_xr1 hx (br_f (by decide) ?_)
    by_cases h0 : v2 < 0
    · exact br_t h0 (rg_yr1 hx (br_f (by decide) (rg_yst00 h30 (Or.inl h0) (br_t rfl ⟨rfl, J⟩))))
    · refine br_f h0 ?_
      by_cases hc : nI n ≤ v2
      · exact br_t hc (rg_yr1 hx (br_f (by decide) (rg_yst00 h30 (Or.inr ⟨h0, hc⟩) (br_t rfl ⟨rfl, J⟩))))
      · refine br_f hc ?_
        obtain ⟨e, he, rfl⟩ := nI_of h0
        rw [nI_leI (by omega) he] at hc
        have hen : e < n := by omega
        refine And.intro (vp_in_nI (by omega) (by decide)) ?_
        rw [nI_clamp (n := e) he]
        have hm : e ∈ (L x).filter (fun e => !bt (dl x) e) ↔ (0 ≤ sy e ∧ bt (kn x) e = true) ∧ bt (dl x) e = false := by
          rw [List.mem_filter, R.2.2.2.2.2.1 e]
          simp
        have no : ¬ e ∈ (L x).filter (fun e => !bt (dl x) e) → wpY_replica (fun r_1 => (((r_1 = 0 → ((-1 : Int32) = -1 ∧ i_Rel (k + 4) (nI n, sy, ot, tX, mk, up, kn, dl, ck, nx) (nI n, sy, lk, mk, tY, up, kn, ck))) ∧ (¬ r_1 = 0 → (wpY_stands (fun r_11 => (((r_11 = 0 → ((-1 : Int32) = -1 ∧ i_Rel (k + 4) (nI n, sy, ot, tX, mk, up, kn, dl, ck, nx) (nI n, sy, lk, mk, tY, up, kn, ck))) ∧ (¬ r_11 = 0 → (wpY_rank (fun r_21 => (r_21 = -1 ∧ i_Rel (k + 4) (nI n, sy, ot, tX, mk, up, kn, dl, ck, nx) (nI n, sy, lk, mk, tY, up, kn, ck))) (nI n, sy, lk, mk, tY, up, kn, ck) (nI x) (nI e)))))) (nI n, sy, lk, mk, tY, up, kn, ck) (nI x) (nI e)))))) (nI n, sy, lk, mk, tY, up, kn, ck) (nI x) := by
          intro hno
          refine rg_yr1 hx (br_f (by decide) (rg_yst V R hx hen ?_))
          rw [decide_eq_false hno]
          exact br_t rfl ⟨rfl, J⟩
        by_cases hs : sy e < 0
        · exact br_t hs (no (fun hh => rg_nle.mpr hs (hm.mp hh).1.1))
        · refine br_f hs (rg_xk hx (by omega) ?_)
          cases hk1 : bt (kn x) e
          · exact br_t rfl (no (fun hh => by have := (hm.mp hh).1.2; rw [hk1] at this; exact absurd this (by decide)))
          · refine br_f (by decide) (rg_xs hx (by omega) ?_)
            cases hd1 : bt (dl x) e
            · have heV := hm.mpr ⟨⟨rg_nl.mp hs, hk1⟩, hd1⟩
              have heL := (List.mem_filter.mp heV).1
              obtain ⟨B1, B2, hB⟩ := List.append_of_mem heL
              have hLb := rg_Lb V R
              have hR2 := (List.pairwise_cons.mp R.2.2.2.2.2.2).2
              rw [hB] at hR2
              have hnB : ¬ e ∈ B1 := fun hh => rg_ir _ _ ((List.pairwise_append.mp hR2).2.2 e hh e List.mem_cons_self)
              have hlen := hLb.2
              rw [hB, List.length_append, List.length_cons] at hlen
              have C2 := rg_Cc.mp C
              rw [hB] at C2
              have hpos : rg_pos ((L x).filter (fun e => !bt (dl x) e)) e = (B1.filter (fun e => !bt (dl x) e)).length := by
                rw [hB, List.filter_append, List.filter_cons_of_pos (by rw [hd1]; rfl)]
                exact rg_posA _ _ (fun hh => hnB (List.mem_filter.mp hh).1)
              have hcell : nx ((nI x * 31) + nI 30).toNatClampNeg = nI (rg_hd (B1 ++ e :: B2)) := by
                rw [rg_ixc hx (by omega)]; exact C2.1
              refine br_f (by decide) (And.intro (rg_ixi (a := 30) hx (by omega)) (nm_r hcell (Exists.intro 31 (rg_xpl hx (by omega) B2 B1 0 0 31 C2.2 (fun b hb => ⟨hLb.1 b (by rw [hB]; exact List.mem_append_left _ hb), fun hh => hnB (by rw [← hh]; exact hb)⟩) (by omega) (by omega) ?_))))
              refine rg_yr1 hx (br_f (by decide) (rg_yst V R hx hen ?_))
              rw [decide_eq_true heV]
              refine br_f (by decide) (rg_yrk V R hx heV ⟨?_, J⟩)
              rw [hpos, Nat.zero_add]
            · exact br_t rfl (no (fun hh => by have := (hm.mp hh).2; rw [hd1] at this; exact absurd this (by decide)))
theorem i_vc_same {k : Nat} {u : SX} {v : SY} (I : i_Rel k u v) (hk : k + 4 ≤ 2048) (v1 : Int32) (v2 : Int32) : wpX_same (fun r => wpY_same (fun r' => r' = r ∧ i_Rel (k + 4) u v) v v1 v2) u v1 v2 := by
  refine rg_el (Q := fun u v => wpX_same (fun r => wpY_same (fun r' => r' = r ∧ i_Rel (k + 4) u v) v v1 v2) u v1 v2) ?_ I
  intro n sy ot tX mk up kn dl ck nx lk tY pa tm wh cl P L H
  have J := rg_mk (k + 4) H
  obtain ⟨V, A, W⟩ := H
  unfold wpX_same wpY_same
  dsimp only
  rcases rg_rep v1 with hb | ⟨x, hx, rfl⟩
  · exact rg_xr0 hb (br_t rfl (rg_yr0 hb (br_t rfl (Exists.intro 1 (rg_ysm0 (p := 0) (by omega) ⟨rfl, J⟩)))))
  · refine rg_xr1 hx (br_f (by decide) ?_)
    rcases rg_rep v2 with hb | ⟨y, hy, rfl⟩
    · exact rg_xr0 hb (br_t rfl (rg_yr1 hx (br_f (by decide) (rg_yr0 hb (br_t rfl (Exists.intro 1 (rg_ysm0 (p := 0) (by omega) ⟨rfl, J⟩)))))))
    · obtain ⟨R, _, C⟩ := A x hx
      obtain ⟨R2, _, C2⟩ := A y hy
      have l1 := rg_Vlen V R
      have l2 := rg_Vlen V R2
      refine rg_xr1 hy (br_f (by decide) (rg_xlen hx C (rg_Lb V R).1 (rg_Lb V R).2 (rg_xlen hy C2 (rg_Lb V R2).1 (rg_Lb V R2).2 ?_)))
      by_cases hl : ((L x).filter (fun e => !bt (dl x) e)).length = ((L y).filter (fun e => !bt (dl y) e)).length
      · by_cases hall : ∀ q, 0 ≤ q → q < ((L x).filter (fun e => !bt (dl x) e)).length → rg_aa sy ((L x).filter (fun e => !bt (dl x) e)) q = rg_aa sy ((L y).filter (fun e => !bt (dl y) e)) q
        · have hall2 : ∀ q, 0 ≤ q → q < 30 → rg_aa sy ((L x).filter (fun e => !bt (dl x) e)) q = rg_aa sy ((L y).filter (fun e => !bt (dl y) e)) q := by
            intro q h1 h2
            by_cases hq : q < ((L x).filter (fun e => !bt (dl x) e)).length
            · exact hall q h1 hq
            · unfold rg_aa
              rw [if_neg hq, if_neg (by omega)]
          refine br_t (by rw [hl]) (Exists.intro 31 (rg_xsm (r := true) V R R2 hx hy C C2 l1 ?_ _ 0 31 (Nat.zero_add _) (by omega) ⟨fun _ => hall, fun _ => rfl⟩))
          refine rg_yr1 hx (br_f (by decide) (rg_yr1 hy (br_f (by decide) (rg_ylen V R hx (rg_ylen V R2 hy ?_)))))
          exact br_t (by rw [hl]) (Exists.intro 32 (rg_ysm (r := true) V R R2 hx hy ⟨rfl, J⟩ 30 0 32 (by omega) (by omega) ⟨fun _ => hall2, fun _ => rfl⟩))
        · have hall2 : ¬ ∀ q, 0 ≤ q → q < 30 → rg_aa sy ((L x).filter (fun e => !bt (dl x) e)) q = rg_aa sy ((L y).filter (fun e => !bt (dl y) e)) q :=
            fun hh => hall (fun q h1 h2 => hh q h1 (by omega))
          refine br_t (by rw [hl]) (Exists.intro 31 (rg_xsm (r := false) V R R2 hx hy C C2 l1 ?_ _ 0 31 (Nat.zero_add _) (by omega) ⟨fun hh => absurd hh (by decide), fun hh => absurd hh hall⟩))
          refine rg_yr1 hx (br_f (by decide) (rg_yr1 hy (br_f (by decide) (rg_ylen V R hx (rg_ylen V R2 hy ?_)))))
          exact br_t (by rw [hl]) (Exists.intro 32 (rg_ysm (r := false) V R R2 hx hy ⟨rfl, J⟩ 30 0 32 (by omega) (by omega) ⟨fun hh => absurd hh (by decide), fun hh => absurd hh hall2⟩))
      · have hne : ¬ nI ((L x).filter (fun e => !bt (dl x) e)).length = nI ((L y).filter (fun e => !bt (dl y) e)).length := fun hh => hl ((nI_eq (by omega) (by omega)).mp hh)
        exact br_f hne (rg_yr1 hx (br_f (by decide) (rg_yr1 hy (br_f (by decide) (rg_ylen V R hx (rg_ylen V R2 hy (br_f hne (Exists.intro 1 (rg_ysm0 (p := 0) (by omega) ⟨rfl, J⟩)))))))))
theorem i_vc_elements {k : Nat} {u : SX} {v : SY} (I : i_Rel k u v) (hk : k + 4 ≤ 2048) (v1 : Int32) : wpX_elements (fun r => wpY_elements (fun r' => r' = r ∧ i_Rel (k + 4) u v) v v1) u v1 := by
  refine rg_el (Q := fun u v => wpX_elements (fun r => wpY_elements (fun r' => r' = r ∧ i_Rel (k + 4) u v) v v1) u v1) ?_ I
  intro n sy ot tX mk up kn dl ck nx lk tY pa tm wh cl P L H
  have J := rg_mk (k + 4) H
  have h30 := H.1.1
  unfold wpX_elements
  dsimp only
  rcases rg_rep v1 with hb | ⟨x, hx, rfl⟩
  · exact rg_xr0 hb (br_t rfl (rg_yelts0 h30 hb ⟨rfl, J⟩))
  · exact rg_xr1 hx (br_f (by decide) (Exists.intro (n + 1) (rg_xelts hx h30 (Exists.intro (n + 1) (rg_yelts hx h30 ⟨rfl, J⟩ n 0 (n + 1) (by omega) (by omega))) n 0 (n + 1) (by omega) (by omega))))
end
section
/-! what is owed: the calls that store -/
section
variable {n : Nat} {sy ot tX mk up kn dl ck nx lk tY : Nat → Int32} {pa tm wh cl : Nat → Nat} {P L : Nat → List Nat} {x : Nat}
/-- the element at a place within the text is known -/
theorem rg_elt {dx kx : Int32} {c p : Nat} {l : List Nat} (R : rg_RX n sy up pa tm (rg_K tm wh) P kx dx c l) (hp : p < (l.filter (fun e => !bt dx e)).length) :
    (l.filter (fun e => !bt dx e)).getD p 30 < n ∧ 0 ≤ sy ((l.filter (fun e => !bt dx e)).getD p 30) ∧ bt kx ((l.filter (fun e => !bt dx e)).getD p 30) = true := by
  obtain ⟨g1, g2, g3⟩ := rg_Vnd R
  have h := (rg_posG _ g2 p hp).2
  exact ⟨(g3 _ h).1, (g3 _ h).2, ((R.2.2.2.2.2.1 _).mp (List.mem_filter.mp h).1).2⟩
/-- a symbol is put in behind an element, or at the beginning -/
theorem rg_put (I : rg_IV n sy ot tX mk up kn dl ck nx lk tY pa tm wh cl P L) (hn : n < 30) (hx : x < 3) {s p : Nat} (hs : s ≤ 25) (hp : p = 30 ∨ (p < n ∧ 0 ≤ sy p ∧ bt (kn x) p = true)) :
    ∃ (u' : SX) (v' : SY), (∀ k, i_Rel k u' v') ∧
      (∀ post : Int32 → SX → Prop, post (nI n) u' → wX_put_61 post (nI x) (nI s) (nI p) (nI n) sy ot tX mk up kn dl ck nx) ∧
      (∀ post : Int32 → SY → Prop, post (nI n) v' → wY_put_61 post (nI x) (nI s) (rg_lk p) (nI n) sy lk mk tY up kn ck) := by
  have h0 : 0 ≤ nI s := nI_pos' (by omega)
  have hcl : cl x ≤ n := (I.2.1 x hx).1.1
  have hck : ck x = nI (cl x) := (I.2.1 x hx).2.1
  obtain ⟨dl', nx', H, hw⟩ := rg_make I hn hx (s := nI s) (a := nI (cl x + 1)) (b := nI (cl x + 1)) (t := cl x + 1) hp (fun hh => absurd h0 hh) (fun _ => ⟨rfl, rfl, rfl⟩)
  have e1 : rg_nc (nI s) (cl x) (cl x + 1) = cl x + 1 := if_pos ⟨h0, Nat.lt_succ_self _⟩
  rw [e1] at H hw
  have hp30 : p ≤ 30 := by rcases hp with hp | hp <;> omega
  refine ⟨_, _, H, ?_, ?_⟩
  · intro post h
    exact rg_xmake hn hx hp30 (rg_nar2 (by omega)) (rg_nar2 (by omega)) (fun _ => by rw [hck, nI_1]) (fun hh => absurd h0 hh) hw h
  · intro post h
    exact rg_yput hn hx hck h
theorem rg_era (I : rg_IV n sy ot tX mk up kn dl ck nx lk tY pa tm wh cl P L) (hn : n < 30) (hx : x < 3) {p : Nat} (hp : p < n ∧ 0 ≤ sy p ∧ bt (kn x) p = true) :
    ∃ (u' : SX) (v' : SY), (∀ k, i_Rel k u' v') ∧
      (∀ post : Int32 → SX → Prop, post (nI n) u' → wpX_make post (nI n, sy, ot, tX, mk, up, kn, dl, ck, nx) (nI x) (-1) (nI p)) ∧
      (∀ post : Int32 → SY → Prop, post (nI n) v' → wpY_note post (nI n, sy, lk, mk, tY, up, kn, ck) (nI x) (-1) (nI p)) := by
  have hck : ck x = nI (cl x) := (I.2.1 x hx).2.1
  obtain ⟨dl', nx', H, hw⟩ := rg_make I hn hx (s := -1) (a := 0) (b := ck x) (t := 0) (Or.inr hp) (fun _ => by omega) (fun hh => absurd hh rg_mnot)
  have e1 : upd ck x (nI (rg_nc (-1) (cl x) 0)) = ck := rg_same2 (by
    rw [hck]
    exact congrArg nI (if_neg (fun hh => rg_mnot hh.1)))
  have e2 : rg_lk p = nI p := rg_lkn (by omega)
  rw [e1, e2] at H
  rw [e1] at hw
  refine ⟨_, _, H, ?_, ?_⟩
  · intro post h
    exact rg_xmake hn hx (by omega) rg_narM (rg_nar2 (a := 0) (by omega)) (fun hh => absurd hh rg_mnot) (fun _ => rfl) hw h
  · intro post h
    exact rg_ynote hn hx h
end
theorem i_vc_put {k : Nat} {u : SX} {v : SY} (I : i_Rel k u v) (hk : k + 4 ≤ 2048) (v1 : Int32) (v2 : Int32) (v3 : Int32) : wpX_put (fun r u' => wpY_put (fun r' v' => r' = r ∧ i_Rel (k + 4) u' v') v v1 v2 v3) u v1 v2 v3 := by
  refine rg_el (Q := fun u v => wpX_put (fun r u' => wpY_put (fun r' v' => r' = r ∧ i_Rel (k + 4) u' v') v v1 v2 v3) u v1 v2 v3) ?_ I
  intro n sy ot tX mk up kn dl ck nx lk tY pa tm wh cl P L H
  have J := rg_mk (k + 4) H
  have V := H.1
  have h30 := V.1
  unfold wpX_put wpY_put
  dsimp only
  rcases rg_rep v1 with hb | ⟨x, hx, rfl⟩
  · exact rg_xr0 hb (br_t rfl (rg_yr0 hb (br_t rfl ⟨rfl, J⟩)))
  · obtain ⟨R, ckx, C⟩ := H.2.1 x hx
    have hlen := rg_Vlen V R
    refine rg_xr1 hx (br_f (by decide) ?_)
    by_cases hs0 : v3 < 0
    · exact br_t hs0 (rg_yr1 hx (br_f (by decide) (br_t hs0 ⟨rfl, J⟩)))
    · refine br_f hs0 ?_
      by_cases hs1 : 25 < v3
      · exact br_t hs1 (rg_yr1 hx (br_f (by decide) (br_f hs0 (br_t hs1 ⟨rfl, J⟩))))
      · refine br_f hs1 ?_
        obtain ⟨s, hs, rfl⟩ := nI_of hs0
        have hs25 : s ≤ 25 := by
          rw [show (25 : Int32) = nI 25 from rfl, nI_ltI (by decide) hs] at hs1
          omega
        by_cases hp0 : v2 < 0
        · exact br_t hp0 (rg_yr1 hx (br_f (by decide) (br_f hs0 (br_f hs1 (br_t hp0 ⟨rfl, J⟩)))))
        · refine br_f hp0 (rg_xlen hx C (rg_Lb V R).1 (rg_Lb V R).2 ?_)
          obtain ⟨p, hp, rfl⟩ := nI_of hp0
          by_cases hpl : p ≤ ((L x).filter (fun e => !bt (dl x) e)).length
          · have hpl2 : nI p ≤ nI ((L x).filter (fun e => !bt (dl x) e)).length := nI_le hpl (by omega)
            refine br_t hpl2 ?_
            by_cases hn : n < 30
            · have hn2 : nI n < 30 := nI_lt (b := 30) hn (by decide)
              refine br_t hn2 ?_
              cases p with
              | zero =>
                obtain ⟨u', v', g1, g2, g3⟩ := rg_put H hn hx hs25 (p := 30) (Or.inl rfl)
                refine br_t rfl (g2 _ ?_)
                refine rg_yr1 hx (br_f (by decide) (br_f hs0 (br_f hs1 (br_f hp0 (rg_ylen V R hx (br_t hpl2 (br_t hn2 (br_t rfl (g3 _ ?_)))))))))
                exact ⟨rfl, g1 (k + 4)⟩
              | succ p =>
                have hpp : p < ((L x).filter (fun e => !bt (dl x) e)).length := by omega
                have hne : ¬ nI (p + 1) = 0 := nI_ne0 (by omega) hp
                obtain ⟨u', v', g1, g2, g3⟩ := rg_put H hn hx hs25 (Or.inr (rg_elt R hpp))
                have e1 : rg_ma ((L x).filter (fun e => !bt (dl x) e)) p = rg_lk (((L x).filter (fun e => !bt (dl x) e)).getD p 30) := by
                  have h1 := (rg_elt R hpp).1
                  rw [rg_lkn (by omega)]
                  exact if_pos hpp
                refine br_f hne ?_
                rw [nI_pred]
                refine rg_xea hx C (rg_Lb V R).1 (rg_Lb V R).2 (by omega) (g2 _ ?_)
                refine rg_yr1 hx (br_f (by decide) (br_f hs0 (br_f hs1 (br_f hp0 (rg_ylen V R hx (br_t hpl2 (br_t hn2 (br_f hne ?_))))))))
                refine rg_yma V R hx (by omega) ?_
                rw [e1]
                exact g3 _ ⟨rfl, g1 (k + 4)⟩
            · have hn2 : ¬ nI n < 30 := nI_nlt (b := 30) (by omega) (by omega)
              exact br_f hn2 (rg_yr1 hx (br_f (by decide) (br_f hs0 (br_f hs1 (br_f hp0 (rg_ylen V R hx (br_t hpl2 (br_f hn2 ⟨rfl, J⟩))))))))
          · have hpl2 : ¬ nI p ≤ nI ((L x).filter (fun e => !bt (dl x) e)).length := nI_ge (by omega) hp
            exact br_f hpl2 (rg_yr1 hx (br_f (by decide) (br_f hs0 (br_f hs1 (br_f hp0 (rg_ylen V R hx (br_f hpl2 ⟨rfl, J⟩)))))))
theorem i_vc_erase {k : Nat} {u : SX} {v : SY} (I : i_Rel k u v) (hk : k + 4 ≤ 2048) (v1 : Int32) (v2 : Int32) : wpX_erase (fun r u' => wpY_erase (fun r' v' => r' = r ∧ i_Rel (k + 4) u' v') v v1 v2) u v1 v2 := by
  refine rg_el (Q := fun u v => wpX_erase (fun r u' => wpY_erase (fun r' v' => r' = r ∧ i_Rel (k + 4) u' v') v v1 v2) u v1 v2) ?_ I
  intro n sy ot tX mk up kn dl ck nx lk tY pa tm wh cl P L H
  have J := rg_mk (k + 4) H
  have V := H.1
  have h30 := V.1
  unfold wpX_erase wpY_erase
  dsimp only
  rcases rg_rep v1 with hb | ⟨x, hx, rfl⟩
  · exact rg_xr0 hb (br_t rfl (rg_yr0 hb (br_t rfl ⟨rfl, J⟩)))
  · obtain ⟨R, ckx, C⟩ := H.2.1 x hx
    have hlen := rg_Vlen V R
    refine rg_xr1 hx (br_f (by decide) ?_)
    by_cases hp0 : v2 < 0
    · exact br_t hp0 (rg_yr1 hx (br_f (by decide) (br_t hp0 ⟨rfl, J⟩)))
    · refine br_f hp0 (rg_xlen hx C (rg_Lb V R).1 (rg_Lb V R).2 ?_)
      obtain ⟨p, hp, rfl⟩ := nI_of hp0
      by_cases hpl : p < ((L x).filter (fun e => !bt (dl x) e)).length
      · have hpl2 : nI p < nI ((L x).filter (fun e => !bt (dl x) e)).length := nI_lt hpl (by omega)
        refine br_t hpl2 ?_
        by_cases hn : n < 30
        · have hn2 : nI n < 30 := nI_lt (b := 30) hn (by decide)
          obtain ⟨u', v', g1, g2, g3⟩ := rg_era H hn hx (rg_elt R hpl)
          have e1 : rg_ma ((L x).filter (fun e => !bt (dl x) e)) p = nI (((L x).filter (fun e => !bt (dl x) e)).getD p 30) := if_pos hpl
          refine br_t hn2 (rg_xea hx C (rg_Lb V R).1 (rg_Lb V R).2 hp (g2 _ ?_))
          refine rg_yr1 hx (br_f (by decide) (br_f hp0 (rg_ylen V R hx (br_t hpl2 (br_t hn2 (rg_yma V R hx hp ?_))))))
          rw [e1]
          exact g3 _ ⟨rfl, g1 (k + 4)⟩
        · have hn2 : ¬ nI n < 30 := nI_nlt (b := 30) (by omega) (by omega)
          exact br_f hn2 (rg_yr1 hx (br_f (by decide) (br_f hp0 (rg_ylen V R hx (br_t hpl2 (br_f hn2 ⟨rfl, J⟩))))))
      · have hpl2 : ¬ nI p < nI ((L x).filter (fun e => !bt (dl x) e)).length := nI_nlt (by omega) hp
        exact br_f hpl2 (rg_yr1 hx (br_f (by decide) (br_f hp0 (rg_ylen V R hx (br_f hpl2 ⟨rfl, J⟩)))))
theorem i_vc_learn {k : Nat} {u : SX} {v : SY} (I : i_Rel k u v) (hk : k + 4 ≤ 2048) (v1 : Int32) (v2 : Int32) (v3 : Int32) : wpX_learn (fun r u' => wpY_learn (fun r' v' => r' = r ∧ i_Rel (k + 4) u' v') v v1 v2 v3) u v1 v2 v3 := by
  refine rg_el (Q := fun u v => wpX_learn (fun r u' => wpY_learn (fun r' v' => r' = r ∧ i_Rel (k + 4) u' v') v v1 v2 v3) u v1 v2 v3) ?_ I
  intro n sy ot tX mk up kn dl ck nx lk tY pa tm wh cl P L H
  have J := rg_mk (k + 4) H
  have V := H.1
  have h30 := V.1
  unfold wpX_learn wpY_learn
  dsimp only
  rcases rg_rep v1 with hb | ⟨x, hx, rfl⟩
  · exact rg_xr0 hb (br_t rfl (rg_yr0 hb (br_t rfl ⟨rfl, J⟩)))
  · refine rg_xr1 hx (br_f (by decide) ?_)
    rcases rg_rep v2 with hb | ⟨y, hy, rfl⟩
    · exact rg_xr0 hb (br_t rfl (rg_yr1 hx (br_f (by decide) (rg_yr0 hb (br_t rfl ⟨rfl, J⟩)))))
    · refine rg_xr1 hy (br_f (by decide) ?_)
      by_cases hxy : nI x = nI y
      · exact br_t hxy (rg_yr1 hx (br_f (by decide) (rg_yr1 hy (br_f (by decide) (br_t hxy ⟨rfl, J⟩)))))
      · refine br_f hxy ?_
        by_cases h0 : v3 < 0
        · exact br_t h0 (rg_yr1 hx (br_f (by decide) (rg_yr1 hy (br_f (by decide) (br_f hxy (rg_yk0 (Or.inl h0) (br_t rfl ⟨rfl, J⟩)))))))
        · refine br_f h0 ?_
          by_cases hc : nI n ≤ v3
          · exact br_t hc (rg_yr1 hx (br_f (by decide) (rg_yr1 hy (br_f (by decide) (br_f hxy (rg_yk0 (Or.inr ⟨h0, hc⟩) (br_t rfl ⟨rfl, J⟩)))))))
          · refine br_f hc ?_
            obtain ⟨e, he, rfl⟩ := nI_of h0
            rw [nI_leI (by omega) he] at hc
            have hen : e < n := by omega
            have hv : vp_in (nI e) 30 := vp_in_nI (by omega) (by decide)
            have hv3 : vp_in (nI x) 3 := vp_in_nI hx (by decide)
            refine rg_xk hy (by omega) ?_
            cases hky : bt (kn y) e
            · refine br_t rfl (rg_yr1 hx (br_f (by decide) (rg_yr1 hy (br_f (by decide) (br_f hxy (rg_yk hy hen h30 ?_))))))
              rw [hky]
              exact br_t rfl ⟨rfl, J⟩
            · refine br_f (by decide) (rg_xk hx (by omega) ?_)
              cases hkx : bt (kn x) e
              · refine br_t rfl ⟨hv, hv3, ?_⟩
                rw [nI_clamp (n := e) (by omega), nI_clamp (n := x) (by omega)]
                by_cases hu : (up e &&& (kn x ^^^ (-1))) = 0
                · obtain ⟨dl', ck', nx', cl', L', H2, w1, w2⟩ := rg_step H hx hen hkx ((rg_sub _ _).mp hu)
                  refine br_t hu (w1 _ ?_)
                  refine rg_yr1 hx (br_f (by decide) (rg_yr1 hy (br_f (by decide) (br_f hxy (rg_yk hy hen h30 ?_)))))
                  rw [hky]
                  refine br_f (by decide) (rg_yk hx hen h30 ?_)
                  rw [hkx]
                  refine br_t rfl ⟨hv, hv3, ?_⟩
                  exact br_t hu (w2 _ ⟨rfl, rg_mk _ H2⟩)
                · refine br_f hu (rg_yr1 hx (br_f (by decide) (rg_yr1 hy (br_f (by decide) (br_f hxy (rg_yk hy hen h30 ?_))))))
                  rw [hky]
                  refine br_f (by decide) (rg_yk hx hen h30 ?_)
                  rw [hkx]
                  refine br_t rfl ⟨hv, hv3, ?_⟩
                  exact br_f hu ⟨rfl, J⟩
              · refine br_f (by decide) (rg_yr1 hx (br_f (by decide) (rg_yr1 hy (br_f (by decide) (br_f hxy (rg_yk hy hen h30 ?_))))))
                rw [hky]
                refine br_f (by decide) (rg_yk hx hen h30 ?_)
                rw [hkx]
                exact br_f (by decide) ⟨rfl, J⟩
theorem i_vc_catchUp {k : Nat} {u : SX} {v : SY} (I : i_Rel k u v) (hk : k + 4 ≤ 2048) (v1 : Int32) (v2 : Int32) : wpX_catchUp (fun r u' => wpY_catchUp (fun r' v' => r' = r ∧ i_Rel (k + 4) u' v') v v1 v2) u v1 v2 := by
  refine rg_el (Q := fun u v => wpX_catchUp (fun r u' => wpY_catchUp (fun r' v' => r' = r ∧ i_Rel (k + 4) u' v') v v1 v2) u v1 v2) ?_ I
  intro n sy ot tX mk up kn dl ck nx lk tY pa tm wh cl P L H
  have J := rg_mk (k + 4) H
  unfold wpX_catchUp wpY_catchUp
  dsimp only
  rcases rg_rep v1 with hb | ⟨x, hx, rfl⟩
  · exact rg_xr0 hb (br_t rfl (rg_yr0 hb (br_t rfl ⟨rfl, J⟩)))
  · refine rg_xr1 hx (br_f (by decide) ?_)
    rcases rg_rep v2 with hb | ⟨y, hy, rfl⟩
    · exact rg_xr0 hb (br_t rfl (rg_yr1 hx (br_f (by decide) (rg_yr0 hb (br_t rfl ⟨rfl, J⟩)))))
    · refine rg_xr1 hy (br_f (by decide) ?_)
      by_cases hxy : nI x = nI y
      · exact br_t hxy (rg_yr1 hx (br_f (by decide) (rg_yr1 hy (br_f (by decide) (br_t hxy ⟨rfl, J⟩)))))
      · have hne : y ≠ x := fun hh => hxy (by rw [hh])
        obtain ⟨r, u', v', g1, g2, g3⟩ := rg_cu hx hy hne n kn dl ck nx cl L 0 0 H (by omega) (fun i hi => absurd hi (Nat.not_lt_zero i))
        refine br_f hxy (Exists.intro (n + 1) (g2 _ (n + 1) (by omega) ?_))
        exact rg_yr1 hx (br_f (by decide) (rg_yr1 hy (br_f (by decide) (br_f hxy (Exists.intro (n + 1) (g3 _ (n + 1) (by omega) ⟨rfl, g1 (k + 4)⟩))))))
end
