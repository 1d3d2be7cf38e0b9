section
/-! bits of an Int32 (the first rows are those of kit/laws BITS, renamed) -/
def pg_b (x : Int32) (i : Nat) : Bool := x.toBitVec.getLsbD i
theorem pg_ext {x y : Int32} (h : ∀ i, i < 32 → pg_b x i = pg_b y i) : x = y := Int32.toBitVec_inj.mp (BitVec.eq_of_getLsbD_eq (fun i hi => h i hi))
theorem pg_or (x y : Int32) (i : Nat) : pg_b (x ||| y) i = (pg_b x i || pg_b y i) := by unfold pg_b; rw [Int32.toBitVec_or, BitVec.getLsbD_or]
theorem pg_and (x y : Int32) (i : Nat) : pg_b (x &&& y) i = (pg_b x i && pg_b y i) := by unfold pg_b; rw [Int32.toBitVec_and, BitVec.getLsbD_and]
theorem pg_xor (x y : Int32) (i : Nat) : pg_b (x ^^^ y) i = (pg_b x i ^^ pg_b y i) := by unfold pg_b; rw [Int32.toBitVec_xor, BitVec.getLsbD_xor]
theorem pg_big {x : Int32} {i : Nat} (h : 32 ≤ i) : pg_b x i = false := BitVec.getLsbD_of_ge _ _ h
theorem pg_255 (i : Nat) : pg_b 255 i = decide (i < 8) := by
  rcases Nat.lt_or_ge i 32 with h | h
  · exact (by decide +kernel : ∀ i, i < 32 → pg_b 255 i = decide (i < 8)) i h
  · rw [pg_big h, decide_eq_false (by omega)]
theorem pg_1 (i : Nat) : pg_b 1 i = decide (i = 0) := by
  rcases Nat.lt_or_ge i 32 with h | h
  · exact (by decide +kernel : ∀ i, i < 32 → pg_b 1 i = decide (i = 0)) i h
  · rw [pg_big h, decide_eq_false (by omega)]
theorem pg_m1 : ∀ i, i < 32 → pg_b (-1) i = true := by decide +kernel
theorem pg_0 (i : Nat) : pg_b 0 i = false := BitVec.getLsbD_zero
theorem pg_sl : ∀ n, n < 32 → ((nI n &&& 31).toBitVec.smod 32).toNat = n := by decide +kernel
theorem pg_shl (n : Nat) (hn : n < 32) (x : Int32) {i : Nat} (hi : i < 32) : pg_b (x <<< (nI n &&& 31)) i = (decide (n ≤ i) && pg_b x (i - n)) := by
  unfold pg_b
  rw [Int32.toBitVec_shiftLeft]
  show (x.toBitVec <<< ((nI n &&& 31).toBitVec.smod 32).toNat).getLsbD i = _
  rw [pg_sl n hn, BitVec.getLsbD_shiftLeft]
  rcases Nat.lt_or_ge i n with h | h
  · simp [h, Nat.not_le.mpr h]
  · simp [hi, h, Nat.not_lt.mpr h]
theorem pg_sshr (n : Nat) (hn : n < 32) (x : Int32) {i : Nat} (hi : i < 32) : pg_b (x >>> (nI n &&& 31)) i = if n + i < 32 then pg_b x (n + i) else pg_b x 31 := by
  unfold pg_b
  rw [Int32.toBitVec_shiftRight]
  show (x.toBitVec.sshiftRight ((nI n &&& 31).toBitVec.smod 32).toNat).getLsbD i = _
  rw [pg_sl n hn, BitVec.getLsbD_sshiftRight, BitVec.msb_eq_getLsbD_last]
  simp [hi]
/-- bit k alone -/
def pg_k (k : Nat) : Int32 := (1 : Int32) <<< (nI k &&& 31)
theorem pg_kb {k : Nat} (hk : k < 32) (i : Nat) : pg_b (pg_k k) i = decide (i = k) := by
  rcases Nat.lt_or_ge i 32 with h | h
  · unfold pg_k
    rw [pg_shl k hk 1 h, pg_1]
    by_cases e : i = k
    · subst e; simp
    · rcases Nat.lt_or_ge i k with z | z
      · simp [e, Nat.not_le.mpr z]
      · have e2 : ¬ i - k = 0 := by omega
        simp [e, e2]
  · rw [pg_big h, decide_eq_false (by omega)]
theorem pg_get (x : Int32) {k : Nat} (hk : k < 32) : (x >>> (nI k &&& 31)) &&& 1 = nI (pg_b x k).toNat := by
  apply pg_ext
  intro i hi
  rw [pg_and, pg_sshr k hk x hi, pg_1]
  by_cases e : i = 0
  · subst e
    rw [if_pos (by omega), Nat.add_zero]
    cases h : pg_b x k
    · show (false && _) = pg_b (nI 0) 0
      rw [nI_0, pg_0]; rfl
    · show (true && decide (0 = 0)) = pg_b (1 : Int32) 0
      rw [pg_1]; rfl
  · rw [decide_eq_false e, Bool.and_false]
    cases h : pg_b x k
    · show false = pg_b (nI 0) i
      rw [nI_0, pg_0]
    · show false = pg_b (1 : Int32) i
      rw [pg_1, decide_eq_false e]
theorem pg_if {A B : Prop} {x y : Int32} (k : Nat) (f : pg_b x k = true → A) (g : pg_b x k = false → B) (hk : k < 32) (hy : y = nI k := by rfl) : (((x >>> (y &&& 31)) &&& 1) = 1 → A) ∧ (¬ ((x >>> (y &&& 31)) &&& 1) = 1 → B) := by
  subst hy
  rw [pg_get x hk]
  cases h : pg_b x k
  · exact br_f (by decide) (g h)
  · exact br_t (by decide) (f h)
theorem pg_eq0 {x : Int32} (h : ∀ i, pg_b x i = false) : x = 0 := pg_ext (fun i _ => by rw [h i, pg_0])
theorem pg_nz {x : Int32} (h : x ≠ 0) : ∃ i, pg_b x i = true := by
  refine Classical.byContradiction (fun z => h (pg_eq0 (fun i => ?_)))
  cases e : pg_b x i
  · rfl
  · exact absurd ⟨i, e⟩ z
theorem pg_ne0 {x : Int32} {i : Nat} (h : pg_b x i = true) : x ≠ 0 := by
  intro e
  rw [e, pg_0] at h
  exact Bool.noConfusion h
/-- subset -/
def pg_sub (x y : Int32) : Prop := ∀ p, pg_b x p = true → pg_b y p = true
theorem pg_lt8 {x : Int32} (h : pg_sub x 255) {p : Nat} (hp : pg_b x p = true) : p < 8 := by
  have t := h p hp
  rw [pg_255] at t
  exact of_decide_eq_true t
theorem pg_sub_tr {x y z : Int32} (h : pg_sub x y) (g : pg_sub y z) : pg_sub x z := fun p hp => g p (h p hp)
theorem pg_sub_as {x y : Int32} (h : pg_sub x y) (g : pg_sub y x) : x = y := by
  refine pg_ext (fun i _ => ?_)
  cases e : pg_b x i
  · cases e2 : pg_b y i
    · rfl
    · exact absurd (g i e2) (by rw [e]; decide)
  · rw [h i e]
/-- a, and each bit k < n with f k -/
def pg_acc (a : Int32) (f : Nat → Bool) : Nat → Int32
  | 0 => a
  | k + 1 => if f k then pg_acc a f k ||| pg_k k else pg_acc a f k
theorem pg_acc_t {a : Int32} {f : Nat → Bool} {k : Nat} (h : f k = true) : pg_acc a f (k + 1) = pg_acc a f k ||| pg_k k := by
  show (if f k = true then _ else _) = _
  rw [if_pos h]
theorem pg_acc_f {a : Int32} {f : Nat → Bool} {k : Nat} (h : f k = false) : pg_acc a f (k + 1) = pg_acc a f k := by
  show (if f k = true then _ else _) = _
  rw [if_neg (by rw [h]; decide)]
theorem pg_acc_b {a : Int32} {f : Nat → Bool} (i : Nat) : ∀ {n : Nat}, n ≤ 32 → pg_b (pg_acc a f n) i = (pg_b a i || (decide (i < n) && f i)) := by
  intro n
  induction n with
  | zero =>
    intro _
    show pg_b a i = _
    rw [decide_eq_false (by omega), Bool.false_and, Bool.or_false]
  | succ n ih =>
    intro hn
    have t := ih (by omega)
    by_cases e : i = n
    · subst e
      rw [decide_eq_false (by omega), Bool.false_and, Bool.or_false] at t
      rw [decide_eq_true (by omega), Bool.true_and]
      cases h : f i
      · rw [pg_acc_f h, t, Bool.or_false]
      · rw [pg_acc_t h, pg_or, pg_kb (by omega), decide_eq_true rfl, Bool.or_true, Bool.or_true]
    · have d : decide (i < n + 1) = decide (i < n) := by
        rcases Nat.lt_or_ge i n with z | z
        · rw [decide_eq_true z, decide_eq_true (by omega)]
        · rw [decide_eq_false (by omega), decide_eq_false (by omega)]
      rw [d, ← t]
      cases h : f n
      · rw [pg_acc_f h]
      · rw [pg_acc_t h, pg_or, pg_kb (by omega), decide_eq_false e, Bool.or_false]
/-- how many bits below n -/
def pg_cd (x : Int32) : Nat → Nat
  | 0 => 0
  | k + 1 => pg_cd x k + (pg_b x k).toNat
theorem pg_cd_le (x : Int32) : ∀ n, pg_cd x n ≤ n := by
  intro n
  induction n with
  | zero => exact Nat.le_refl 0
  | succ n ih =>
    show pg_cd x n + (pg_b x n).toNat ≤ n + 1
    have := Bool.toNat_le (pg_b x n)
    omega
theorem pg_cd_mono {x y : Int32} (h : pg_sub x y) : ∀ n, pg_cd x n ≤ pg_cd y n := by
  intro n
  induction n with
  | zero => exact Nat.le_refl 0
  | succ n ih =>
    show pg_cd x n + (pg_b x n).toNat ≤ pg_cd y n + (pg_b y n).toNat
    have t : (pg_b x n).toNat ≤ (pg_b y n).toNat := by
      cases e : pg_b x n
      · exact Nat.zero_le _
      · rw [h n e]; exact Nat.le_refl _
    omega
theorem pg_cd_lt {x y : Int32} (h : pg_sub x y) {q : Nat} (hx : pg_b x q = false) (hy : pg_b y q = true) : ∀ n, q < n → pg_cd x n < pg_cd y n := by
  intro n
  induction n with
  | zero => intro z; omega
  | succ n ih =>
    intro hq
    show pg_cd x n + (pg_b x n).toNat < pg_cd y n + (pg_b y n).toNat
    by_cases e : q = n
    · subst e
      have := pg_cd_mono h q
      rw [hx, hy]
      show pg_cd x q + 0 < pg_cd y q + 1
      omega
    · have a := ih (by omega)
      have t : (pg_b x n).toNat ≤ (pg_b y n).toNat := by
        cases e : pg_b x n
        · exact Nat.zero_le _
        · rw [h n e]; exact Nat.le_refl _
      omega
theorem pg_cd_0 {x : Int32} (h : pg_sub x 255) (hc : pg_cd x 8 = 0) : x = 0 := by
  refine pg_eq0 (fun i => ?_)
  cases e : pg_b x i
  · rfl
  · have hi := pg_lt8 h e
    have := pg_cd_lt (x := 0) (y := x) (fun p hp => by rw [pg_0] at hp; exact Bool.noConfusion hp) (pg_0 i) e 8 hi
    omega
/-- A without R -/
def pg_no (A R : Int32) : Int32 := A &&& (R ^^^ (-1))
theorem pg_no_b (A R : Int32) (p : Nat) : pg_b (pg_no A R) p = (pg_b A p && !pg_b R p) := by
  unfold pg_no
  rw [pg_and, pg_xor]
  rcases Nat.lt_or_ge p 32 with h | h
  · rw [pg_m1 p h, Bool.xor_true]
  · rw [pg_big h, Bool.false_and, Bool.false_and]
theorem pg_no_i {A R : Int32} {p : Nat} (hA : pg_b A p = true) (hR : pg_b R p = false) : pg_b (pg_no A R) p = true := by
  rw [pg_no_b, hA, hR]; rfl
theorem pg_no_A {A R : Int32} {p : Nat} (h : pg_b (pg_no A R) p = true) : pg_b A p = true := by
  rw [pg_no_b] at h
  cases e : pg_b A p
  · rw [e] at h; exact Bool.noConfusion h
  · rfl
theorem pg_no_R {A R : Int32} {p : Nat} (h : pg_b (pg_no A R) p = true) : pg_b R p = false := by
  rw [pg_no_b] at h
  cases e : pg_b R p
  · rfl
  · rw [e] at h
    cases e2 : pg_b A p
    · rw [e2] at h; exact Bool.noConfusion h
    · rw [e2] at h; exact Bool.noConfusion h
theorem pg_bf {x : Bool} (h : ¬ x = true) : x = false := by
  cases x
  · rfl
  · exact absurd rfl h
theorem pg_bt {x : Bool} (h : ¬ x = false) : x = true := by
  cases x
  · exact absurd rfl h
  · rfl
theorem pg_tf {x : Bool} {P : Prop} (h : x = true) (g : x = false) : P := by
  rw [h] at g
  exact Bool.noConfusion g
/-- one function on a set, another outside -/
def pg_gl {α : Type} (S : Int32) (a b : Nat → α) (p : Nat) : α := if pg_b S p = true then a p else b p
theorem pg_glt {α : Type} {S : Int32} {a b : Nat → α} {p : Nat} (h : pg_b S p = true) : pg_gl S a b p = a p := if_pos h
theorem pg_glf {α : Type} {S : Int32} {a b : Nat → α} {p : Nat} (h : pg_b S p = false) : pg_gl S a b p = b p := if_neg (by rw [h]; decide)
theorem pg_bound (m : Nat → Nat) : ∀ n, ∃ K, ∀ p, p < n → m p ≤ K := by
  intro n
  induction n with
  | zero => exact ⟨0, fun p hp => absurd hp (by omega)⟩
  | succ n ih =>
    obtain ⟨K, h⟩ := ih
    refine ⟨K + m n, fun p hp => ?_⟩
    by_cases e : p = n
    · subst e; omega
    · have := h p (by omega)
      omega
end
section
/-! forced: the pure picture and its laws -/
def pg_mv (f s : Nat → Nat) (p : Nat) : Int32 := pg_k (f p) ||| pg_k (s p)
def pg_co (w f s : Nat → Nat) (i : Nat) (A B : Int32) (p : Nat) : Bool :=
  pg_b A p && (if w p = i then decide (¬ (pg_mv f s p &&& A) &&& B = 0) else decide ((pg_mv f s p &&& A) &&& (B ^^^ (-1)) = 0))
def pg_step (w f s : Nat → Nat) (i : Nat) (A B : Int32) : Int32 := pg_acc B (pg_co w f s i A B) 8
def pg_it (w f s : Nat → Nat) (i : Nat) (A : Int32) : Nat → Int32 → Int32 → Int32
  | 0, S, _ => S
  | n + 1, S, B => if S = B then S else pg_it w f s i A n (pg_step w f s i A S) S
def pg_fc (w f s : Nat → Nat) (i : Nat) (T A : Int32) : Int32 := pg_it w f s i A 9 T 0
/-- the move that a plan takes -/
def pg_go (f s : Nat → Nat) (t : Bool) (p : Nat) : Nat := if t then s p else f p
theorem pg_mvb {f s : Nat → Nat} {p : Nat} (hf : f p < 8) (hs : s p < 8) (q : Nat) : pg_b (pg_mv f s p) q = (decide (q = f p) || decide (q = s p)) := by
  unfold pg_mv
  rw [pg_or, pg_kb (by omega), pg_kb (by omega)]
theorem pg_some {f s : Nat → Nat} {p : Nat} {A B : Int32} (hf : f p < 8) (hs : s p < 8) : ¬ (pg_mv f s p &&& A) &&& B = 0 ↔ (pg_b A (f p) = true ∧ pg_b B (f p) = true) ∨ (pg_b A (s p) = true ∧ pg_b B (s p) = true) := by
  constructor
  · intro h
    obtain ⟨q, hq⟩ := pg_nz h
    rw [pg_and, pg_and, pg_mvb hf hs] at hq
    simp only [Bool.and_eq_true, Bool.or_eq_true, decide_eq_true_eq] at hq
    obtain ⟨⟨e | e, hA⟩, hB⟩ := hq
    · subst e; exact Or.inl ⟨hA, hB⟩
    · subst e; exact Or.inr ⟨hA, hB⟩
  · intro h
    rcases h with ⟨hA, hB⟩ | ⟨hA, hB⟩
    · refine pg_ne0 (i := f p) ?_
      rw [pg_and, pg_and, pg_mvb hf hs, hA, hB]
      simp
    · refine pg_ne0 (i := s p) ?_
      rw [pg_and, pg_and, pg_mvb hf hs, hA, hB]
      simp
theorem pg_every {f s : Nat → Nat} {p : Nat} {A B : Int32} (hf : f p < 8) (hs : s p < 8) : (pg_mv f s p &&& A) &&& (B ^^^ (-1)) = 0 ↔ (pg_b A (f p) = true → pg_b B (f p) = true) ∧ (pg_b A (s p) = true → pg_b B (s p) = true) := by
  have key : ∀ q, pg_b ((pg_mv f s p &&& A) &&& (B ^^^ (-1))) q = (pg_b (pg_mv f s p) q && (pg_b A q && !pg_b B q)) := by
    intro q
    have e := pg_no_b (pg_mv f s p &&& A) B q
    unfold pg_no at e
    rw [e, pg_and, Bool.and_assoc]
  constructor
  · intro h
    have z : ∀ q, (q = f p ∨ q = s p) → pg_b A q = true → pg_b B q = true := by
      intro q hq hA
      have t := key q
      rw [h, pg_0, pg_mvb hf hs, hA] at t
      cases e : pg_b B q
      · rw [e] at t
        rcases hq with hq | hq
        · rw [decide_eq_true hq] at t; exact Bool.noConfusion t
        · rw [decide_eq_true hq, Bool.or_true] at t; exact Bool.noConfusion t
      · rfl
    exact ⟨z _ (Or.inl rfl), z _ (Or.inr rfl)⟩
  · intro h
    refine pg_eq0 (fun q => ?_)
    rw [key, pg_mvb hf hs]
    by_cases e1 : q = f p
    · subst e1
      cases e : pg_b A (f p)
      · simp
      · rw [h.1 e]; simp
    · by_cases e2 : q = s p
      · subst e2
        cases e : pg_b A (s p)
        · simp
        · rw [h.2 e]; simp
      · simp [e1, e2]
theorem pg_co_own {w f s : Nat → Nat} {i p : Nat} {A B : Int32} (hf : f p < 8) (hs : s p < 8) (hA : pg_b A p = true) (hw : w p = i) : pg_co w f s i A B p = true ↔ (pg_b A (f p) = true ∧ pg_b B (f p) = true) ∨ (pg_b A (s p) = true ∧ pg_b B (s p) = true) := by
  unfold pg_co
  rw [hA, Bool.true_and, if_pos hw, decide_eq_true_eq]
  exact pg_some hf hs
theorem pg_co_oth {w f s : Nat → Nat} {i p : Nat} {A B : Int32} (hf : f p < 8) (hs : s p < 8) (hA : pg_b A p = true) (hw : w p ≠ i) : pg_co w f s i A B p = true ↔ (pg_b A (f p) = true → pg_b B (f p) = true) ∧ (pg_b A (s p) = true → pg_b B (s p) = true) := by
  unfold pg_co
  rw [hA, Bool.true_and, if_neg hw, decide_eq_true_eq]
  exact pg_every hf hs
theorem pg_co_A {w f s : Nat → Nat} {i p : Nat} {A B : Int32} (h : pg_co w f s i A B p = true) : pg_b A p = true := by
  unfold pg_co at h
  cases e : pg_b A p
  · rw [e, Bool.false_and] at h; exact Bool.noConfusion h
  · rfl
/-- rank conditions: outside T every position of S has what leads it to a lower one -/
def pg_rk (w f s : Nat → Nat) (i : Nat) (A T S : Int32) (rk : Nat → Nat) : Prop :=
  (∀ p, pg_b S p = true → pg_b T p = false → w p = i → ∃ t : Bool, pg_b S (pg_go f s t p) = true ∧ rk (pg_go f s t p) < rk p) ∧
  (∀ p, pg_b S p = true → pg_b T p = false → w p ≠ i → ∀ t : Bool, pg_b A (pg_go f s t p) = true → pg_b S (pg_go f s t p) = true ∧ rk (pg_go f s t p) < rk p)
def pg_ai (w f s : Nat → Nat) (i : Nat) (A T S : Int32) : Prop :=
  pg_sub T S ∧ pg_sub S A ∧ ∃ (rk : Nat → Nat) (M : Nat), (∀ p, pg_b S p = true → rk p < M) ∧ pg_rk w f s i A T S rk
def pg_att (w f s : Nat → Nat) (i : Nat) (A T R : Int32) : Prop :=
  pg_sub T R ∧ pg_sub R A ∧
  (∀ p, pg_b A p = true → w p = i → ∀ t : Bool, pg_b A (pg_go f s t p) = true → pg_b R (pg_go f s t p) = true → pg_b R p = true) ∧
  (∀ p, pg_b A p = true → w p ≠ i → (∀ t : Bool, pg_b A (pg_go f s t p) = true → pg_b R (pg_go f s t p) = true) → pg_b R p = true) ∧
  ∃ rk : Nat → Nat, pg_rk w f s i A T R rk
theorem pg_step_b (w f s : Nat → Nat) (i : Nat) (A B : Int32) (p : Nat) : pg_b (pg_step w f s i A B) p = (pg_b B p || (decide (p < 8) && pg_co w f s i A B p)) := pg_acc_b p (by omega)
theorem pg_step_sub (w f s : Nat → Nat) (i : Nat) (A B : Int32) : pg_sub B (pg_step w f s i A B) := by
  intro p hp
  rw [pg_step_b, hp, Bool.true_or]
theorem pg_step_new {w f s : Nat → Nat} {i : Nat} {A B : Int32} {p : Nat} (h : pg_b (pg_step w f s i A B) p = true) (hB : pg_b B p = false) : pg_co w f s i A B p = true := by
  rw [pg_step_b, hB, Bool.false_or] at h
  rw [Bool.and_eq_true] at h
  exact h.2
theorem pg_ai_step {w f s : Nat → Nat} {i : Nat} {A T S : Int32} (hfs : ∀ p, p < 8 → f p < 8 ∧ s p < 8) (hA : pg_sub A 255) (h : pg_ai w f s i A T S) : pg_ai w f s i A T (pg_step w f s i A S) := by
  obtain ⟨h1, h2, rk, M, h3, h4, h5⟩ := h
  have up := pg_step_sub w f s i A S
  refine ⟨pg_sub_tr h1 up, ?_, pg_gl S rk (fun _ => M), M + 1, ?_, ?_, ?_⟩
  · intro p hp
    cases e : pg_b S p
    · exact pg_co_A (pg_step_new hp e)
    · exact h2 p e
  · intro p hp
    cases e : pg_b S p
    · rw [pg_glf e]; omega
    · rw [pg_glt e]; have := h3 p e; omega
  · intro p hp hT hw
    cases e : pg_b S p
    · have c := pg_step_new hp e
      have a := pg_co_A c
      have lt := hfs p (pg_lt8 hA a)
      rw [pg_glf e]
      rcases (pg_co_own lt.1 lt.2 a hw).mp c with ⟨_, z⟩ | ⟨_, z⟩
      · refine ⟨false, up _ z, ?_⟩
        show pg_gl S rk (fun _ => M) (f p) < M
        rw [pg_glt z]; exact h3 _ z
      · refine ⟨true, up _ z, ?_⟩
        show pg_gl S rk (fun _ => M) (s p) < M
        rw [pg_glt z]; exact h3 _ z
    · obtain ⟨t, ht, hr⟩ := h4 p e hT hw
      refine ⟨t, up _ ht, ?_⟩
      rw [pg_glt ht, pg_glt e]; exact hr
  · intro p hp hT hw t hq
    cases e : pg_b S p
    · have c := pg_step_new hp e
      have a := pg_co_A c
      have lt := hfs p (pg_lt8 hA a)
      have both := (pg_co_oth lt.1 lt.2 a hw).mp c
      have z : pg_b S (pg_go f s t p) = true := by
        cases t
        · exact both.1 hq
        · exact both.2 hq
      rw [pg_glf e, pg_glt z]
      exact ⟨up _ z, h3 _ z⟩
    · obtain ⟨ht, hr⟩ := h5 p e hT hw t hq
      rw [pg_glt ht, pg_glt e]
      exact ⟨up _ ht, hr⟩
theorem pg_it_same (w f s : Nat → Nat) (i : Nat) (A S : Int32) : ∀ n, pg_it w f s i A n S S = S := by
  intro n
  cases n with
  | zero => rfl
  | succ n =>
    show (if S = S then S else _) = S
    rw [if_pos rfl]
theorem pg_it_spec {w f s : Nat → Nat} {i : Nat} {A T : Int32} (hfs : ∀ p, p < 8 → f p < 8 ∧ s p < 8) (hA : pg_sub A 255) : ∀ n S B, pg_ai w f s i A T S → (S = B → pg_step w f s i A S = S) → 8 < pg_cd S 8 + n → pg_ai w f s i A T (pg_it w f s i A n S B) ∧ pg_step w f s i A (pg_it w f s i A n S B) = pg_it w f s i A n S B := by
  intro n
  induction n with
  | zero =>
    intro S B _ _ hc
    have := pg_cd_le S 8
    omega
  | succ n ih =>
    intro S B h1 h2 h3
    by_cases e : S = B
    · have r : pg_it w f s i A (n + 1) S B = S := if_pos e
      rw [r]
      exact ⟨h1, h2 e⟩
    · have r : pg_it w f s i A (n + 1) S B = pg_it w f s i A n (pg_step w f s i A S) S := if_neg e
      rw [r]
      by_cases e2 : pg_step w f s i A S = S
      · rw [e2, pg_it_same]
        exact ⟨h1, e2⟩
      · have h4 := pg_ai_step hfs hA h1
        have up := pg_step_sub w f s i A S
        refine ih _ S h4 (fun z => absurd z e2) ?_
        have nq : ∃ q, pg_b (pg_step w f s i A S) q = true ∧ pg_b S q = false := by
          refine Classical.byContradiction (fun z => e2 (pg_sub_as (fun q hq => ?_) up))
          cases e3 : pg_b S q
          · exact absurd ⟨q, hq, e3⟩ z
          · rfl
        obtain ⟨q, q1, q2⟩ := nq
        have := pg_cd_lt up q2 q1 8 (pg_lt8 hA (h4.2.1 q q1))
        omega
theorem pg_fc_att {w f s : Nat → Nat} {i : Nat} {A T : Int32} (hfs : ∀ p, p < 8 → f p < 8 ∧ s p < 8) (hA : pg_sub A 255) (hT : pg_sub T A) (h0 : T ≠ 0) : pg_att w f s i A T (pg_fc w f s i T A) := by
  have start : pg_ai w f s i A T T := ⟨fun p hp => hp, hT, (fun _ => 0), 1, (fun p _ => Nat.zero_lt_one), (fun p hp hq => pg_tf hp hq), (fun p hp hq => pg_tf hp hq)⟩
  obtain ⟨⟨g1, g2, rk, M, _, g4⟩, g5⟩ := pg_it_spec hfs hA 9 T 0 start (fun z => absurd z h0) (by omega)
  have cl : ∀ p, pg_b A p = true → pg_co w f s i A (pg_it w f s i A 9 T 0) p = true → pg_b (pg_it w f s i A 9 T 0) p = true := by
    intro p hp hc
    rw [← g5, pg_step_b, hc, decide_eq_true (pg_lt8 hA hp)]
    exact Bool.or_true _
  refine ⟨g1, g2, ?_, ?_, rk, g4⟩
  · intro p hp hw t ht1 ht2
    have lt := hfs p (pg_lt8 hA hp)
    refine cl p hp ((pg_co_own lt.1 lt.2 hp hw).mpr ?_)
    cases t
    · exact Or.inl ⟨ht1, ht2⟩
    · exact Or.inr ⟨ht1, ht2⟩
  · intro p hp hw ht
    have lt := hfs p (pg_lt8 hA hp)
    exact cl p hp ((pg_co_oth lt.1 lt.2 hp hw).mpr ⟨ht false, ht true⟩)
/-- every position has a move inside -/
def pg_tot (f s : Nat → Nat) (A : Int32) : Prop := ∀ p, pg_b A p = true → ∃ t : Bool, pg_b A (pg_go f s t p) = true
theorem pg_tot_no {w f s : Nat → Nat} {i : Nat} {A T R : Int32} (h : pg_tot f s A) (ha : pg_att w f s i A T R) : pg_tot f s (pg_no A R) := by
  obtain ⟨_, _, h3, h4, _⟩ := ha
  intro p hp
  have pA := pg_no_A hp
  have pR := pg_no_R hp
  by_cases hw : w p = i
  · obtain ⟨t, ht⟩ := h p pA
    refine ⟨t, pg_no_i ht (pg_bf (fun z => pg_tf (h3 p pA hw t ht z) pR))⟩
  · refine Classical.byContradiction (fun z => ?_)
    refine pg_tf (h4 p pA hw (fun t ht => ?_)) pR
    refine Classical.byContradiction (fun y => z ⟨t, pg_no_i ht (pg_bf y)⟩)
end
section
/-! a player wins a set of positions: a plan, the set closed, and for each colour of the other player a measure -/
def pg_win (w c f s : Nat → Nat) (i : Nat) (A W : Int32) : Prop := ∃ σ : Nat → Bool,
  (∀ p, pg_b W p = true → w p = i → pg_b W (pg_go f s (σ p) p) = true) ∧
  (∀ p, pg_b W p = true → w p ≠ i → ∀ t : Bool, pg_b A (pg_go f s t p) = true → pg_b W (pg_go f s t p) = true) ∧
  ∀ b : Nat, b % 2 ≠ i → ∃ m : Nat → Nat, ∀ (p : Nat) (t : Bool), pg_b W p = true → (w p = i → t = σ p) → pg_b W (pg_go f s t p) = true → c p ≤ b → c (pg_go f s t p) ≤ b → m (pg_go f s t p) ≤ m p ∧ (c p = b → m (pg_go f s t p) < m p)
theorem pg_win_keep {w c f s : Nat → Nat} {i j : Nat} {A T R W : Int32} (hij : ∀ p, pg_b A p = true → w p ≠ i → w p = j) (hW : pg_sub W (pg_no A R)) (ha : pg_att w f s j A T R) (h : pg_win w c f s i (pg_no A R) W) : pg_win w c f s i A W := by
  obtain ⟨σ, h1, h2, h3⟩ := h
  refine ⟨σ, h1, ?_, h3⟩
  intro p hp hw t ht
  have pn := hW p hp
  have pA := pg_no_A pn
  have q : pg_b R (pg_go f s t p) = false := pg_bf (fun z => pg_tf (ha.2.2.1 p pA (hij p pA hw) t ht z) (pg_no_R pn))
  exact h2 p hp hw t (pg_no_i ht q)
theorem pg_win_attr {w c f s : Nat → Nat} {i : Nat} {A T R : Int32} (hA : pg_sub A 255) (ha : pg_att w f s i A T R) (h : pg_win w c f s i A T) : pg_win w c f s i A R := by
  obtain ⟨σ, h1, h2, h3⟩ := h
  obtain ⟨hTR, hRA, _, _, rk, r1, r2⟩ := ha
  have ch : ∀ p, ∃ t : Bool, pg_b R p = true → pg_b T p = false → w p = i → pg_b R (pg_go f s t p) = true ∧ rk (pg_go f s t p) < rk p := by
    intro p
    by_cases e : pg_b R p = true ∧ pg_b T p = false ∧ w p = i
    · obtain ⟨t, ht⟩ := r1 p e.1 e.2.1 e.2.2
      exact ⟨t, fun _ _ _ => ht⟩
    · exact ⟨true, fun a b d => absurd ⟨a, b, d⟩ e⟩
  obtain ⟨τ, hτ⟩ := Classical.axiomOfChoice ch
  refine ⟨pg_gl T σ τ, ?_, ?_, ?_⟩
  · intro p hp hw
    cases e : pg_b T p
    · rw [pg_glf e]; exact (hτ p hp e hw).1
    · rw [pg_glt e]; exact hTR _ (h1 p e hw)
  · intro p hp hw t ht
    cases e : pg_b T p
    · exact (r2 p hp e hw t ht).1
    · exact hTR _ (h2 p e hw t ht)
  · intro b hb
    obtain ⟨m, hm⟩ := h3 b hb
    obtain ⟨K, hK⟩ := pg_bound m 8
    refine ⟨pg_gl T m (fun p => K + 1 + rk p), ?_⟩
    intro p t hp ht hq hc1 hc2
    cases e : pg_b T p
    · rw [pg_glf e]
      have lt : rk (pg_go f s t p) < rk p := by
        by_cases hw : w p = i
        · have z := ht hw
          rw [pg_glf e] at z
          rw [z]
          exact (hτ p hp e hw).2
        · exact (r2 p hp e hw t (hRA _ hq)).2
      cases e2 : pg_b T (pg_go f s t p)
      · rw [pg_glf e2]
        exact ⟨by omega, fun _ => by omega⟩
      · rw [pg_glt e2]
        have := hK (pg_go f s t p) (pg_lt8 hA (hRA _ hq))
        exact ⟨by omega, fun _ => by omega⟩
    · have ht' : w p = i → t = σ p := by
        intro hw
        have z := ht hw
        rw [pg_glt e] at z
        exact z
      have e2 : pg_b T (pg_go f s t p) = true := by
        by_cases hw : w p = i
        · rw [ht' hw]; exact h1 p e hw
        · exact h2 p e hw t (hRA _ hq)
      rw [pg_glt e, pg_glt e2]
      exact hm p t e ht' e2 hc1 hc2
theorem pg_win_union {w c f s : Nat → Nat} {i : Nat} {A R W : Int32} (hA : pg_sub A 255) (hR : pg_sub R A) (hW : pg_sub W (pg_no A R)) (h1 : pg_win w c f s i A R) (h2 : pg_win w c f s i (pg_no A R) W) : pg_win w c f s i A (W ||| R) := by
  obtain ⟨σ1, a1, a2, a3⟩ := h1
  obtain ⟨σ2, b1, b2, b3⟩ := h2
  have inR : ∀ p, pg_b R p = true → pg_b (W ||| R) p = true := fun p hp => by rw [pg_or, hp, Bool.or_true]
  have inW : ∀ p, pg_b W p = true → pg_b (W ||| R) p = true := fun p hp => by rw [pg_or, hp, Bool.true_or]
  have ofW : ∀ p, pg_b (W ||| R) p = true → pg_b R p = false → pg_b W p = true := fun p hp hq => by
    rw [pg_or, hq, Bool.or_false] at hp; exact hp
  refine ⟨pg_gl R σ1 σ2, ?_, ?_, ?_⟩
  · intro p hp hw
    cases e : pg_b R p
    · rw [pg_glf e]; exact inW _ (b1 p (ofW p hp e) hw)
    · rw [pg_glt e]; exact inR _ (a1 p e hw)
  · intro p hp hw t ht
    cases e : pg_b R p
    · cases e2 : pg_b R (pg_go f s t p)
      · exact inW _ (b2 p (ofW p hp e) hw t (pg_no_i ht e2))
      · exact inR _ e2
    · exact inR _ (a2 p e hw t ht)
  · intro b hb
    obtain ⟨m1, hm1⟩ := a3 b hb
    obtain ⟨m2, hm2⟩ := b3 b hb
    obtain ⟨K, hK⟩ := pg_bound m1 8
    refine ⟨pg_gl R m1 (fun p => K + 1 + m2 p), ?_⟩
    intro p t hp ht hq hc1 hc2
    cases e : pg_b R p
    · rw [pg_glf e]
      have ht' : w p = i → t = σ2 p := by
        intro hw
        have z := ht hw
        rw [pg_glf e] at z
        exact z
      cases e2 : pg_b R (pg_go f s t p)
      · rw [pg_glf e2]
        have z := hm2 p t (ofW p hp e) ht' (ofW _ hq e2) hc1 hc2
        exact ⟨by have := z.1; omega, fun y => by have := z.2 y; omega⟩
      · rw [pg_glt e2]
        have := hK (pg_go f s t p) (pg_lt8 hA (hR _ e2))
        exact ⟨by omega, fun _ => by omega⟩
    · have ht' : w p = i → t = σ1 p := by
        intro hw
        have z := ht hw
        rw [pg_glt e] at z
        exact z
      have qA : pg_b A (pg_go f s t p) = true := by
        cases e2 : pg_b R (pg_go f s t p)
        · exact pg_no_A (hW _ (ofW _ hq e2))
        · exact hR _ e2
      have e2 : pg_b R (pg_go f s t p) = true := by
        by_cases hw : w p = i
        · rw [ht' hw]; exact a1 p e hw
        · exact a2 p e hw t qA
      rw [pg_glt e, pg_glt e2]
      exact hm1 p t e ht' e2 hc1 hc2
theorem pg_win_full {w c f s : Nat → Nat} {i g : Nat} {A T S : Int32} (hA : pg_sub A 255) (htot : pg_tot f s A) (ha : pg_att w f s i A T S) (hg : g % 2 = i) (hT : ∀ p, pg_b T p = true → c p = g) (hmax : ∀ p, pg_b A p = true → c p ≤ g) (h : pg_win w c f s i (pg_no A S) (pg_no A S)) : pg_win w c f s i A A := by
  obtain ⟨σ, h1, h2, h3⟩ := h
  obtain ⟨hTS, hSA, _, _, rk, r1, r2⟩ := ha
  have ch : ∀ p, ∃ t : Bool, pg_b S p = true → w p = i → pg_b A (pg_go f s t p) = true ∧ (pg_b T p = false → pg_b S (pg_go f s t p) = true ∧ rk (pg_go f s t p) < rk p) := by
    intro p
    by_cases e : pg_b S p = true ∧ w p = i
    · cases e2 : pg_b T p
      · obtain ⟨t, ht⟩ := r1 p e.1 e2 e.2
        exact ⟨t, fun _ _ => ⟨hSA _ ht.1, fun _ => ht⟩⟩
      · obtain ⟨t, ht⟩ := htot p (hSA p e.1)
        exact ⟨t, fun _ _ => ⟨ht, fun z => Bool.noConfusion z⟩⟩
    · exact ⟨true, fun a d => absurd ⟨a, d⟩ e⟩
  obtain ⟨τ, hτ⟩ := Classical.axiomOfChoice ch
  refine ⟨pg_gl S τ σ, ?_, ?_, ?_⟩
  · intro p hp hw
    cases e : pg_b S p
    · rw [pg_glf e]; exact pg_no_A (h1 p (pg_no_i hp e) hw)
    · rw [pg_glt e]; exact (hτ p e hw).1
  · intro p hp hw t ht
    exact ht
  · intro b hb
    rcases Nat.lt_or_ge g b with hgb | hgb
    · exact ⟨fun _ => 0, fun p t hp _ _ _ _ => ⟨Nat.le_refl 0, fun z => absurd (hmax p hp) (by omega)⟩⟩
    · have hbg : b < g := by
        rcases Nat.lt_or_ge b g with z | z
        · exact z
        · exact absurd (show b % 2 = i by rw [show b = g by omega]; exact hg) hb
      obtain ⟨m, hm⟩ := h3 b hb
      obtain ⟨K, hK⟩ := pg_bound rk 8
      refine ⟨pg_gl S rk (fun p => K + 1 + m p), ?_⟩
      intro p t hp ht hq hc1 hc2
      cases e : pg_b S p
      · rw [pg_glf e]
        have ht' : w p = i → t = σ p := by
          intro hw
          have z := ht hw
          rw [pg_glf e] at z
          exact z
        cases e2 : pg_b S (pg_go f s t p)
        · rw [pg_glf e2]
          have z := hm p t (pg_no_i hp e) ht' (pg_no_i hq e2) hc1 hc2
          exact ⟨by have := z.1; omega, fun y => by have := z.2 y; omega⟩
        · rw [pg_glt e2]
          have := hK (pg_go f s t p) (pg_lt8 hA hq)
          exact ⟨by omega, fun _ => by omega⟩
      · have pT : pg_b T p = false := pg_bf (fun z => by have := hT p z; omega)
        have lt : pg_b S (pg_go f s t p) = true ∧ rk (pg_go f s t p) < rk p := by
          by_cases hw : w p = i
          · have z := ht hw
            rw [pg_glt e] at z
            rw [z]
            exact (hτ p e hw).2 pT
          · exact r2 p e pT hw t hq
        rw [pg_glt e, pg_glt lt.1]
        exact ⟨Nat.le_of_lt lt.2, fun _ => lt.2⟩
end
section
/-! the solver, by fuel: what each player wins, and how many turns of the loop it takes -/
def pg_gr (c : Nat → Nat) (A : Int32) : Nat → Nat
  | 0 => 0
  | k + 1 => if pg_b A k = true ∧ pg_gr c A k < c k then c k else pg_gr c A k
def pg_top (c : Nat → Nat) (A : Int32) (g : Nat) : Int32 := pg_acc 0 (fun p => pg_b A p && decide (c p = g)) 8
def pg_i (c : Nat → Nat) (A : Int32) : Nat := pg_gr c A 8 % 2
def pg_S (w c f s : Nat → Nat) (A : Int32) : Int32 := pg_fc w f s (pg_i c A) (pg_top c A (pg_gr c A 8)) A
def pg_R (w c f s : Nat → Nat) (A L : Int32) : Int32 := pg_fc w f s (1 - pg_i c A) L A
def pg_z (w c f s : Nat → Nat) : Nat → Int32 → (Nat → Int32) × Nat
  | 0, _ => (fun _ => 0, 1)
  | n + 1, A => if A = 0 then (fun _ => 0, 1) else
      if (pg_z w c f s n (pg_no A (pg_S w c f s A))).1 (1 - pg_i c A) = 0 then
        (upd (pg_z w c f s n (pg_no A (pg_S w c f s A))).1 (pg_i c A) A, (pg_z w c f s n (pg_no A (pg_S w c f s A))).2 + 2)
      else
        (upd (pg_z w c f s n (pg_no A (pg_R w c f s A ((pg_z w c f s n (pg_no A (pg_S w c f s A))).1 (1 - pg_i c A))))).1 (1 - pg_i c A)
            ((pg_z w c f s n (pg_no A (pg_R w c f s A ((pg_z w c f s n (pg_no A (pg_S w c f s A))).1 (1 - pg_i c A))))).1 (1 - pg_i c A) ||| pg_R w c f s A ((pg_z w c f s n (pg_no A (pg_S w c f s A))).1 (1 - pg_i c A))),
          (pg_z w c f s n (pg_no A (pg_S w c f s A))).2 + (pg_z w c f s n (pg_no A (pg_R w c f s A ((pg_z w c f s n (pg_no A (pg_S w c f s A))).1 (1 - pg_i c A))))).2 + 3)
theorem pg_z_0 (w c f s : Nat → Nat) : ∀ n, pg_z w c f s n 0 = (fun _ => 0, 1) := by
  intro n
  cases n with
  | zero => rfl
  | succ n => exact if_pos rfl
theorem pg_z_1 {w c f s : Nat → Nat} {n : Nat} {A : Int32} {r : (Nat → Int32) × Nat} (hA : A ≠ 0) (hr : r = pg_z w c f s n (pg_no A (pg_S w c f s A))) (h : r.1 (1 - pg_i c A) = 0) : pg_z w c f s (n + 1) A = (upd r.1 (pg_i c A) A, r.2 + 2) := by
  subst hr
  exact (if_neg hA).trans (if_pos h)
theorem pg_z_2 {w c f s : Nat → Nat} {n : Nat} {A L : Int32} {r r2 : (Nat → Int32) × Nat} (hA : A ≠ 0) (hr : r = pg_z w c f s n (pg_no A (pg_S w c f s A))) (hL : L = r.1 (1 - pg_i c A)) (h : L ≠ 0) (hr2 : r2 = pg_z w c f s n (pg_no A (pg_R w c f s A L))) : pg_z w c f s (n + 1) A = (upd r2.1 (1 - pg_i c A) (r2.1 (1 - pg_i c A) ||| pg_R w c f s A L), r.2 + r2.2 + 3) := by
  subst hr hL hr2
  exact (if_neg hA).trans (if_neg h)
theorem pg_gr_ge {c : Nat → Nat} {A : Int32} {p : Nat} (hp : pg_b A p = true) : ∀ n, p < n → c p ≤ pg_gr c A n := by
  intro n
  induction n with
  | zero => intro z; omega
  | succ n ih =>
    intro hn
    show c p ≤ if pg_b A n = true ∧ pg_gr c A n < c n then c n else pg_gr c A n
    by_cases e : p = n
    · subst e
      by_cases h : pg_b A p = true ∧ pg_gr c A p < c p
      · rw [if_pos h]; exact Nat.le_refl _
      · rw [if_neg h]
        rcases Nat.lt_or_ge (pg_gr c A p) (c p) with z | z
        · exact absurd ⟨hp, z⟩ h
        · exact z
    · have := ih (by omega)
      by_cases h : pg_b A n = true ∧ pg_gr c A n < c n
      · rw [if_pos h]; have := h.2; omega
      · rw [if_neg h]; exact this
theorem pg_gr_at (c : Nat → Nat) (A : Int32) : ∀ n, pg_gr c A n = 0 ∨ ∃ p, p < n ∧ pg_b A p = true ∧ c p = pg_gr c A n := by
  intro n
  induction n with
  | zero => exact Or.inl rfl
  | succ n ih =>
    show (if pg_b A n = true ∧ pg_gr c A n < c n then c n else pg_gr c A n) = 0 ∨ ∃ p, p < n + 1 ∧ pg_b A p = true ∧ c p = (if pg_b A n = true ∧ pg_gr c A n < c n then c n else pg_gr c A n)
    by_cases h : pg_b A n = true ∧ pg_gr c A n < c n
    · rw [if_pos h]
      exact Or.inr ⟨n, by omega, h.1, rfl⟩
    · rw [if_neg h]
      rcases ih with z | ⟨p, h1, h2⟩
      · exact Or.inl z
      · exact Or.inr ⟨p, by omega, h2⟩
theorem pg_gr_ex {c : Nat → Nat} {A : Int32} (hA : pg_sub A 255) (h0 : A ≠ 0) : ∃ p, p < 8 ∧ pg_b A p = true ∧ c p = pg_gr c A 8 := by
  rcases pg_gr_at c A 8 with z | z
  · obtain ⟨p, hp⟩ := pg_nz h0
    have l := pg_lt8 hA hp
    have := pg_gr_ge (c := c) hp 8 l
    exact ⟨p, l, hp, by omega⟩
  · exact z
theorem pg_top_b (c : Nat → Nat) (A : Int32) (g p : Nat) : pg_b (pg_top c A g) p = (decide (p < 8) && (pg_b A p && decide (c p = g))) := by
  unfold pg_top
  rw [pg_acc_b p (by omega), pg_0, Bool.false_or]
theorem pg_top_sub (c : Nat → Nat) (A : Int32) (g : Nat) : pg_sub (pg_top c A g) A := by
  intro p hp
  rw [pg_top_b] at hp
  simp only [Bool.and_eq_true] at hp
  exact hp.2.1
theorem pg_top_c {c : Nat → Nat} {A : Int32} {g p : Nat} (hp : pg_b (pg_top c A g) p = true) : c p = g := by
  rw [pg_top_b] at hp
  simp only [Bool.and_eq_true, decide_eq_true_eq] at hp
  exact hp.2.2
theorem pg_top_ne {c : Nat → Nat} {A : Int32} (hA : pg_sub A 255) (h0 : A ≠ 0) : pg_top c A (pg_gr c A 8) ≠ 0 := by
  obtain ⟨p, h1, h2, h3⟩ := pg_gr_ex (c := c) hA h0
  refine pg_ne0 (i := p) ?_
  rw [pg_top_b, h2, decide_eq_true h1, decide_eq_true h3]
  rfl
theorem pg_i2 (c : Nat → Nat) (A : Int32) : pg_i c A < 2 := Nat.mod_lt _ (by omega)
theorem pg_S_att {w c f s : Nat → Nat} {A : Int32} (hfs : ∀ p, p < 8 → f p < 8 ∧ s p < 8) (hA : pg_sub A 255) (h0 : A ≠ 0) : pg_att w f s (pg_i c A) A (pg_top c A (pg_gr c A 8)) (pg_S w c f s A) :=
  pg_fc_att hfs hA (pg_top_sub c A _) (pg_top_ne hA h0)
theorem pg_no_sub (A R : Int32) : pg_sub (pg_no A R) A := fun p hp => pg_no_A hp
theorem pg_no_cd {A T R : Int32} (hA : pg_sub A 255) (hTR : pg_sub T R) (hTA : pg_sub T A) (h0 : T ≠ 0) : pg_cd (pg_no A R) 8 < pg_cd A 8 := by
  obtain ⟨q, hq⟩ := pg_nz h0
  refine pg_cd_lt (pg_no_sub A R) (q := q) (pg_bf (fun z => pg_tf (hTR q hq) (pg_no_R z))) (hTA q hq) 8 (pg_lt8 hA (hTA q hq))
theorem pg_win_0 (w c f s : Nat → Nat) (i : Nat) (A : Int32) : pg_win w c f s i A 0 :=
  ⟨fun _ => true, fun p hp => pg_tf hp (pg_0 p), fun p hp => pg_tf hp (pg_0 p), fun b _ => ⟨fun _ => 0, fun p t hp => pg_tf hp (pg_0 p)⟩⟩
/-- what the solver's answer is -/
def pg_ans (w c f s : Nat → Nat) (A : Int32) (r : Nat → Int32) : Prop :=
  (∀ j, j < 2 → pg_sub (r j) A) ∧ (∀ p, pg_b A p = true → pg_b (r 0) p = !pg_b (r 1) p) ∧ (∀ j, j < 2 → pg_win w c f s j A (r j))
theorem pg_ans_0 (w c f s : Nat → Nat) : pg_ans w c f s 0 (fun _ => 0) :=
  ⟨fun j _ p hp => hp, fun p hp => pg_tf hp (pg_0 p), fun j _ => pg_win_0 w c f s j 0⟩
theorem pg_cov {r : Nat → Int32} {p i : Nat} (hi : i < 2) : (pg_b (r 0) p = !pg_b (r 1) p) ↔ (pg_b (r i) p = !pg_b (r (1 - i)) p) := by
  rcases (show i = 0 ∨ i = 1 by omega) with e | e
  · subst e; exact Iff.rfl
  · subst e
    show _ ↔ (pg_b (r 1) p = !pg_b (r 0) p)
    cases pg_b (r 0) p <;> cases pg_b (r 1) p <;> decide
theorem pg_z_ans {w c f s : Nat → Nat} (hfs : ∀ p, p < 8 → f p < 8 ∧ s p < 8) (hw : ∀ p, p < 8 → w p < 2) : ∀ n A, pg_sub A 255 → pg_tot f s A → pg_cd A 8 ≤ n → pg_ans w c f s A (pg_z w c f s n A).1 := by
  intro n
  induction n with
  | zero =>
    intro A hA _ hc
    rw [pg_cd_0 hA (by omega)]
    exact pg_ans_0 w c f s
  | succ n ih =>
    intro A hA ht hc
    by_cases h0 : A = 0
    · rw [h0, pg_z_0]
      exact pg_ans_0 w c f s
    · have hi := pg_i2 c A
      have at1 := pg_S_att (w := w) (c := c) hfs hA h0
      have cd1 := pg_no_cd hA at1.1 (pg_top_sub c A _) (pg_top_ne hA h0)
      have A1 : pg_sub (pg_no A (pg_S w c f s A)) 255 := pg_sub_tr (pg_no_sub _ _) hA
      have ans1 := ih _ A1 (pg_tot_no ht at1) (by omega)
      have wo : ∀ p, pg_b A p = true → w p < 2 := fun p hp => hw p (pg_lt8 hA hp)
      generalize hr : pg_z w c f s n (pg_no A (pg_S w c f s A)) = r at ans1
      obtain ⟨s1, c1, w1⟩ := ans1
      by_cases hL : r.1 (1 - pg_i c A) = 0
      · rw [pg_z_1 h0 hr.symm hL]
        show pg_ans w c f s A (upd r.1 (pg_i c A) A)
        have other : ∀ j, j < 2 → j ≠ pg_i c A → upd r.1 (pg_i c A) A j = 0 := by
          intro j hj hn
          rw [pk_un hn, show j = 1 - pg_i c A by omega, hL]
        refine ⟨?_, ?_, ?_⟩
        · intro j hj
          by_cases e : j = pg_i c A
          · rw [e, pk_us]; exact fun p hp => hp
          · rw [other j hj e]; exact fun p hp => pg_tf hp (pg_0 p)
        · intro p hp
          rw [pg_cov hi, pk_us, other (1 - pg_i c A) (by omega) (by omega), hp, pg_0]
          rfl
        · intro j hj
          by_cases e : j = pg_i c A
          · rw [e, pk_us]
            have all : r.1 (pg_i c A) = pg_no A (pg_S w c f s A) := by
              refine pg_sub_as (s1 _ hi) (fun p hp => ?_)
              have z := (pg_cov hi).mp (c1 p hp)
              rw [hL, pg_0] at z
              exact z
            have win1 := w1 _ hi
            rw [all] at win1
            exact pg_win_full hA ht at1 rfl (fun p hp => pg_top_c hp) (fun p hp => pg_gr_ge hp 8 (pg_lt8 hA hp)) win1
          · rw [other j hj e]; exact pg_win_0 w c f s j A
      · have hj : 1 - pg_i c A < 2 := by omega
        generalize hLd : r.1 (1 - pg_i c A) = L at hL
        have sL : pg_sub L (pg_no A (pg_S w c f s A)) := by rw [← hLd]; exact s1 _ hj
        have sLA : pg_sub L A := pg_sub_tr sL (pg_no_sub _ _)
        have at2 : pg_att w f s (1 - pg_i c A) A L (pg_R w c f s A L) := pg_fc_att hfs hA sLA hL
        have cd2 := pg_no_cd hA at2.1 sLA hL
        have A2 : pg_sub (pg_no A (pg_R w c f s A L)) 255 := pg_sub_tr (pg_no_sub _ _) hA
        have ans2 := ih _ A2 (pg_tot_no ht at2) (by omega)
        generalize hr2 : pg_z w c f s n (pg_no A (pg_R w c f s A L)) = r2 at ans2
        obtain ⟨s2, c2, w2⟩ := ans2
        rw [pg_z_2 h0 hr.symm hLd.symm hL hr2.symm]
        show pg_ans w c f s A (upd r2.1 (1 - pg_i c A) (r2.1 (1 - pg_i c A) ||| pg_R w c f s A L))
        have ne : pg_i c A ≠ 1 - pg_i c A := by omega
        refine ⟨?_, ?_, ?_⟩
        · intro j h2
          by_cases e : j = 1 - pg_i c A
          · rw [e, pk_us]
            intro p hp
            rw [pg_or, Bool.or_eq_true] at hp
            rcases hp with z | z
            · exact pg_no_A (s2 _ hj p z)
            · exact at2.2.1 p z
          · rw [pk_un e]
            exact pg_sub_tr (s2 _ h2) (pg_no_sub _ _)
        · intro p hp
          rw [pg_cov hi, pk_us, pk_un ne, pg_or]
          cases e : pg_b (pg_R w c f s A L) p
          · rw [Bool.or_false]
            exact (pg_cov hi).mp (c2 p (pg_no_i hp e))
          · rw [Bool.or_true]
            exact pg_bf (fun z => pg_tf e (pg_no_R (s2 _ hi p z)))
        · intro j h2
          by_cases e : j = 1 - pg_i c A
          · rw [e, pk_us]
            have winL : pg_win w c f s (1 - pg_i c A) (pg_no A (pg_S w c f s A)) L := by
              rw [← hLd]; exact w1 _ hj
            have winLA := pg_win_keep (fun p hp hn => by have := wo p hp; omega) sL at1 winL
            exact pg_win_union hA at2.2.1 (s2 _ hj) (pg_win_attr hA at2 winLA) (w2 _ hj)
          · have e2 : j = pg_i c A := by omega
            rw [pk_un e, e2]
            exact pg_win_keep (fun p hp hn => by have := wo p hp; omega) (s2 _ hi) at2 (w2 _ hi)
theorem pg_z_t (w c f s : Nat → Nat) : ∀ n A, (pg_z w c f s n A).2 + 3 ≤ 4 * 2 ^ n := by
  intro n
  induction n with
  | zero => intro A; exact Nat.le_refl 4
  | succ n ih =>
    intro A
    have pw : 2 ^ (n + 1) = 2 * 2 ^ n := by rw [Nat.pow_succ, Nat.mul_comm]
    have p1 : 1 ≤ 2 ^ n := Nat.one_le_two_pow
    by_cases h0 : A = 0
    · rw [h0, pg_z_0, pw]
      show 1 + 3 ≤ _
      omega
    · have i1 := ih (pg_no A (pg_S w c f s A))
      generalize hr : pg_z w c f s n (pg_no A (pg_S w c f s A)) = r at i1
      by_cases hL : r.1 (1 - pg_i c A) = 0
      · rw [pg_z_1 h0 hr.symm hL, pw]
        show r.2 + 2 + 3 ≤ _
        omega
      · have i2 := ih (pg_no A (pg_R w c f s A (r.1 (1 - pg_i c A))))
        rw [pg_z_2 h0 hr.symm rfl hL rfl, pw]
        generalize pg_z w c f s n (pg_no A (pg_R w c f s A (r.1 (1 - pg_i c A)))) = r2 at i2 ⊢
        show r.2 + r2.2 + 3 + 3 ≤ _
        omega
/-- all colours of one parity -/
theorem pg_z_par {w c f s : Nat → Nat} {d : Nat} (hfs : ∀ p, p < 8 → f p < 8 ∧ s p < 8) (hc : ∀ p, p < 8 → c p % 2 = d) : ∀ n A, pg_sub A 255 → pg_cd A 8 ≤ n → (pg_z w c f s n A).1 d = A ∧ (pg_z w c f s n A).1 (1 - d) = 0 := by
  intro n
  induction n with
  | zero =>
    intro A hA hn
    rw [pg_cd_0 hA (by omega)]
    exact ⟨rfl, rfl⟩
  | succ n ih =>
    intro A hA hn
    by_cases h0 : A = 0
    · rw [h0, pg_z_0]
      exact ⟨rfl, rfl⟩
    · obtain ⟨p, p1, p2, p3⟩ := pg_gr_ex (c := c) hA h0
      have ei : pg_i c A = d := by
        unfold pg_i
        rw [← p3]
        exact hc p p1
      have hi := pg_i2 c A
      have at1 := pg_S_att (w := w) (c := c) hfs hA h0
      have cd1 := pg_no_cd hA at1.1 (pg_top_sub c A _) (pg_top_ne hA h0)
      have i1 := ih (pg_no A (pg_S w c f s A)) (pg_sub_tr (pg_no_sub _ _) hA) (by omega)
      generalize hr : pg_z w c f s n (pg_no A (pg_S w c f s A)) = r at i1
      rw [← ei] at i1 ⊢
      rw [pg_z_1 h0 hr.symm i1.2]
      show upd r.1 (pg_i c A) A (pg_i c A) = A ∧ upd r.1 (pg_i c A) A (1 - pg_i c A) = 0
      rw [pk_us, pk_un (by omega)]
      exact ⟨rfl, i1.2⟩
end
section
/-! plans: closed ways, bad circles, good -/
def pg_mb (w f s : Nat → Nat) (i : Nat) (ch : Int32) (p : Nat) : Int32 :=
  if w p = i then (if pg_b ch p = true then pg_k (s p) else pg_k (f p)) else pg_mv f s p
def pg_lo (c : Nat → Nat) (X : Int32) (b : Nat) : Int32 := pg_acc 0 (fun q => pg_b X q && decide (c q ≤ b)) 8
def pg_r0 (w c f s : Nat → Nat) (i : Nat) (ch : Int32) (b p : Nat) : Int32 := if c p ≤ b then pg_lo c (pg_mb w f s i ch p) b else 0
def pg_wi (k : Nat) : Nat → (Nat → Int32) → Nat → Int32
  | 0, a => a
  | p + 1, a => if pg_b (pg_wi k p a p) k = true then upd (pg_wi k p a) p (pg_wi k p a p ||| pg_wi k p a k) else pg_wi k p a
def pg_wo : Nat → (Nat → Int32) → Nat → Int32
  | 0, a => a
  | k + 1, a => pg_wi k 8 (pg_wo k a)
def pg_rc (w c f s : Nat → Nat) (i : Nat) (ch : Int32) (b : Nat) : Nat → Int32 := pg_wo 8 (pg_r0 w c f s i ch b)
def pg_bs (w c f s : Nat → Nat) (i : Nat) (ch : Int32) : Nat → Int32
  | 0 => 0
  | k + 1 => pg_acc (pg_bs w c f s i ch k) (fun p => decide (c p = 1 - i + 2 * k) && pg_b (pg_rc w c f s i ch (1 - i + 2 * k) p) p) 8
def pg_gd (w c f s : Nat → Nat) (i : Nat) (ch rg : Int32) : Prop := ∀ p, p < 8 → pg_b rg p = true → (pg_rc w c f s i ch 5 p ||| pg_k p) &&& pg_bs w c f s i ch 3 = 0
/-- each row's bits lie in a relation -/
def pg_so (Q : Nat → Nat → Prop) (a : Nat → Int32) : Prop := ∀ p q, p < 8 → pg_b (a p) q = true → Q p q
theorem pg_wi_t {k p : Nat} {a : Nat → Int32} (h : pg_b (pg_wi k p a p) k = true) : pg_wi k (p + 1) a = upd (pg_wi k p a) p (pg_wi k p a p ||| pg_wi k p a k) := if_pos h
theorem pg_wi_f {k p : Nat} {a : Nat → Int32} (h : pg_b (pg_wi k p a p) k = false) : pg_wi k (p + 1) a = pg_wi k p a := if_neg (by rw [h]; decide)
theorem pg_wi_so {Q : Nat → Nat → Prop} (tr : ∀ p k q, Q p k → Q k q → Q p q) {k : Nat} (hk : k < 8) {a : Nat → Int32} (h : pg_so Q a) : ∀ n, n ≤ 8 → pg_so Q (pg_wi k n a) := by
  intro n
  induction n with
  | zero => intro _; exact h
  | succ n ih =>
    intro hn
    have g := ih (by omega)
    cases e : pg_b (pg_wi k n a n) k
    · rw [pg_wi_f e]; exact g
    · rw [pg_wi_t e]
      intro p q hp hb
      by_cases e2 : p = n
      · subst e2
        rw [pk_us, pg_or, Bool.or_eq_true] at hb
        rcases hb with z | z
        · exact g p q hp z
        · exact tr p k q (g p k hp e) (g k q hk z)
      · rw [pk_un e2] at hb
        exact g p q hp hb
theorem pg_wo_so {Q : Nat → Nat → Prop} (tr : ∀ p k q, Q p k → Q k q → Q p q) {a : Nat → Int32} (h : pg_so Q a) : ∀ n, n ≤ 8 → pg_so Q (pg_wo n a) := by
  intro n
  induction n with
  | zero => intro _; exact h
  | succ n ih =>
    intro hn
    exact pg_wi_so tr (by omega) (ih (by omega)) 8 (by omega)
theorem pg_mb_b {w f s : Nat → Nat} {i p q : Nat} {ch : Int32} (hf : f p < 8) (hs : s p < 8) (h : pg_b (pg_mb w f s i ch p) q = true) : ∃ t : Bool, (w p = i → t = pg_b ch p) ∧ q = pg_go f s t p := by
  unfold pg_mb at h
  by_cases hw : w p = i
  · rw [if_pos hw] at h
    cases e : pg_b ch p
    · rw [e, if_neg (by decide), pg_kb (by omega)] at h
      exact ⟨false, fun _ => rfl, of_decide_eq_true h⟩
    · rw [e, if_pos rfl, pg_kb (by omega)] at h
      exact ⟨true, fun _ => rfl, of_decide_eq_true h⟩
  · rw [if_neg hw, pg_mvb hf hs, Bool.or_eq_true] at h
    rcases h with z | z
    · exact ⟨false, fun y => absurd y hw, of_decide_eq_true z⟩
    · exact ⟨true, fun y => absurd y hw, of_decide_eq_true z⟩
theorem pg_r0_b {w c f s : Nat → Nat} {i b p q : Nat} {ch : Int32} (hf : f p < 8) (hs : s p < 8) (h : pg_b (pg_r0 w c f s i ch b p) q = true) : c p ≤ b ∧ c q ≤ b ∧ ∃ t : Bool, (w p = i → t = pg_b ch p) ∧ q = pg_go f s t p := by
  unfold pg_r0 at h
  by_cases hc : c p ≤ b
  · rw [if_pos hc] at h
    unfold pg_lo at h
    rw [pg_acc_b q (by omega), pg_0, Bool.false_or] at h
    simp only [Bool.and_eq_true, decide_eq_true_eq] at h
    exact ⟨hc, h.2.2, pg_mb_b hf hs h.2.1⟩
  · rw [if_neg hc, pg_0] at h
    exact Bool.noConfusion h
theorem pg_bs_b {w c f s : Nat → Nat} {i : Nat} {ch : Int32} {p : Nat} : ∀ n, pg_b (pg_bs w c f s i ch n) p = true → ∃ k, c p = 1 - i + 2 * k ∧ p < 8 ∧ pg_b (pg_rc w c f s i ch (1 - i + 2 * k) p) p = true := by
  intro n
  induction n with
  | zero => intro h; exact pg_tf h (pg_0 p)
  | succ n ih =>
    intro h
    have h' : pg_b (pg_acc (pg_bs w c f s i ch n) (fun p => decide (c p = 1 - i + 2 * n) && pg_b (pg_rc w c f s i ch (1 - i + 2 * n) p) p) 8) p = true := h
    rw [pg_acc_b p (by omega), Bool.or_eq_true] at h'
    rcases h' with z | z
    · exact ih z
    · simp only [Bool.and_eq_true, decide_eq_true_eq] at z
      exact ⟨n, z.2.1, z.1, z.2.2⟩
theorem pg_small {x : Int32} (h : pg_sub x 255) : ∃ n, n < 256 ∧ x = nI n := by
  have e : x &&& 255 = x := by
    refine pg_ext (fun i _ => ?_)
    rw [pg_and]
    cases z : pg_b x i
    · rfl
    · rw [h i z]; rfl
  have t := pk_and x 8 (m := 255) (by decide)
  rw [e] at t
  exact ⟨_, Nat.mod_lt _ (by decide), t⟩
theorem pg_gd_ex {w c f s : Nat → Nat} {i : Nat} {W : Int32} (hfs : ∀ p, p < 8 → f p < 8 ∧ s p < 8) (hi : i < 2) (hW : pg_sub W 255) (h : pg_win w c f s i 255 W) : ∃ n, n < 256 ∧ pg_gd w c f s i (nI n) W := by
  obtain ⟨σ, h1, h2, h3⟩ := h
  have xb : ∀ p, pg_b (pg_acc 0 σ 8) p = (decide (p < 8) && σ p) := fun p => by
    rw [pg_acc_b p (by omega), pg_0, Bool.false_or]
  have xs : pg_sub (pg_acc 0 σ 8) 255 := fun p hp => by
    rw [xb, Bool.and_eq_true] at hp
    rw [pg_255]
    exact hp.1
  obtain ⟨n, hn, en⟩ := pg_small xs
  refine ⟨n, hn, ?_⟩
  have nb : ∀ p, p < 8 → pg_b (nI n) p = σ p := fun p hp => by
    rw [← en, xb, decide_eq_true hp, Bool.true_and]
  have stay : ∀ p t, pg_b W p = true → (w p = i → t = σ p) → pg_b W (pg_go f s t p) = true := by
    intro p t hp ht
    by_cases hw : w p = i
    · rw [ht hw]; exact h1 p hp hw
    · refine h2 p hp hw t ?_
      rw [pg_255]
      have l := hfs p (pg_lt8 hW hp)
      refine decide_eq_true ?_
      cases t
      · exact l.1
      · exact l.2
  have in5 : pg_so (fun p q => pg_b W p = true → pg_b W q = true) (pg_rc w c f s i (nI n) 5) := by
    refine pg_wo_so (fun p k q a b z => b (a z)) ?_ 8 (by omega)
    intro p q hp hb z
    have l := hfs p hp
    obtain ⟨_, _, t, ht, e⟩ := pg_r0_b l.1 l.2 hb
    rw [nb p hp] at ht
    rw [e]
    exact stay p t z ht
  have nobad : ∀ q, pg_b W q = true → pg_b (pg_bs w c f s i (nI n) 3) q = true → False := by
    intro q hq hb
    obtain ⟨k, k1, k2, k3⟩ := pg_bs_b 3 hb
    obtain ⟨m, hm⟩ := h3 (1 - i + 2 * k) (by omega)
    have so : pg_so (fun p q => pg_b W p = true → pg_b W q = true ∧ m q ≤ m p ∧ (c p = 1 - i + 2 * k → m q < m p)) (pg_rc w c f s i (nI n) (1 - i + 2 * k)) := by
      refine pg_wo_so (fun p k q a b z => ?_) ?_ 8 (by omega)
      · have a' := a z
        have b' := b a'.1
        exact ⟨b'.1, by have := a'.2.1; have := b'.2.1; omega, fun y => by have := a'.2.2 y; have := b'.2.1; omega⟩
      · intro p q hp hb z
        have l := hfs p hp
        obtain ⟨c1, c2, t, ht, e⟩ := pg_r0_b l.1 l.2 hb
        rw [nb p hp] at ht
        subst e
        have st := stay p t z ht
        exact ⟨st, hm p t z ht st c1 c2⟩
    have z := (so q q k2 k3 hq).2.2 k1
    omega
  intro p hp hpW
  refine Classical.byContradiction (fun z => ?_)
  obtain ⟨q, hq⟩ := pg_nz z
  rw [pg_and, pg_or, pg_kb (by omega)] at hq
  simp only [Bool.and_eq_true, Bool.or_eq_true, decide_eq_true_eq] at hq
  obtain ⟨hq1, hq2⟩ := hq
  refine nobad q ?_ hq2
  rcases hq1 with y | y
  · exact in5 p q hp y hpW
  · rw [y]; exact hpW
end
section
/-! the walks: greatest, withColour, lowOnly, moves, owner, movesBy, forced -/
def pg_ma (w c f s : Nat → Nat) (o : Int32) (a1 a2 a3 : Nat → Int32) : Prop := ∀ p, p < 8 → w p = (pg_b o p).toNat ∧ a1 p = nI (c p) ∧ a2 p = nI (f p) ∧ a3 p = nI (s p) ∧ c p ≤ 5 ∧ f p < 8 ∧ s p < 8
theorem pg_ma_fs {w c f s : Nat → Nat} {o : Int32} {a1 a2 a3 : Nat → Int32} (h : pg_ma w c f s o a1 a2 a3) : ∀ p, p < 8 → f p < 8 ∧ s p < 8 := fun p hp => (h p hp).2.2.2.2.2
theorem pg_ma_w {w c f s : Nat → Nat} {o : Int32} {a1 a2 a3 : Nat → Int32} (h : pg_ma w c f s o a1 a2 a3) : ∀ p, p < 8 → w p < 2 := fun p hp => by
  rw [(h p hp).1]
  exact Nat.lt_succ_of_le (Bool.toNat_le _)
theorem pg_at1 {w c f s : Nat → Nat} {o : Int32} {a1 a2 a3 : Nat → Int32} (h : pg_ma w c f s o a1 a2 a3) {p : Nat} (hp : p < 8) : a1 (nI p).toNatClampNeg = nI (c p) := by
  rw [nI_clamp (by omega)]; exact (h p hp).2.1
theorem pg_at2 {w c f s : Nat → Nat} {o : Int32} {a1 a2 a3 : Nat → Int32} (h : pg_ma w c f s o a1 a2 a3) {p : Nat} (hp : p < 8) : a2 (nI p).toNatClampNeg = nI (f p) := by
  rw [nI_clamp (by omega)]; exact (h p hp).2.2.1
theorem pg_at3 {w c f s : Nat → Nat} {o : Int32} {a1 a2 a3 : Nat → Int32} (h : pg_ma w c f s o a1 a2 a3) {p : Nat} (hp : p < 8) : a3 (nI p).toNatClampNeg = nI (s p) := by
  rw [nI_clamp (by omega)]; exact (h p hp).2.2.2.1
theorem pg_gr_le {c : Nat → Nat} (A : Int32) (hc : ∀ p, p < 8 → c p ≤ 5) : ∀ n, n ≤ 8 → pg_gr c A n ≤ 5 := by
  intro n hn
  rcases pg_gr_at c A n with z | ⟨p, h1, _, h3⟩
  · omega
  · rw [← h3]; exact hc p (by omega)
section
variable {w c f s : Nat → Nat} {o d : Int32} {a1 a2 a3 a4 a5 a6 a7 a8 : Nat → Int32}
theorem pg_greatest {post : Int32 → Prop} {A : Int32} (h : pg_ma w c f s o a1 a2 a3) (H : post (nI (pg_gr c A 8))) : wpX_greatest post (o, d, a1, a2, a3, a4, a5, a6, a7, a8) A := by
  have hc : ∀ p, p < 8 → c p ≤ 5 := fun p hp => (h p hp).2.2.2.2.1
  refine pk_loop (σ := Unit) (fun n i _ => wX_greatest_4 post A o d a1 a2 a3 a4 a5 a6 a7 a8 n (nI (pg_gr c A i)) (nI i)) (fun _ _ => True) 8 0 () (by omega) trivial ?_ ?_
  · intro n _ _
    exact pk_le 8 8 (fun _ => H) (fun z => absurd z (by omega))
  · intro n i _ hi _ hw
    have hw' : ∀ g, pg_gr c A (i + 1) = g → wX_greatest_4 post A o d a1 a2 a3 a4 a5 a6 a7 a8 n (nI g) (nI (i + 1)) := fun g e => by
      rw [← e]; exact hw () trivial
    have l1 := hc i hi
    have l2 := pg_gr_le A hc i (by omega)
    have e1 := pg_at1 h hi
    refine pk_le 8 i (fun z => absurd z (by omega)) (fun _ => pg_if i (fun hb => ⟨pk_in i 8 hi, ?_⟩) (fun hb => nm_r (nI_1 i) (hw' _ ?_)) (by omega))
    · refine pk_le (c i) (pg_gr c A i) (fun z => nm_r (nI_1 i) (hw' _ ?_)) (fun z => ⟨pk_in i 8 hi, nm_r e1 (nm_r (nI_1 i) (hw' _ ?_))⟩) e1 rfl (by omega) (by omega)
      · exact if_neg (fun y => absurd y.2 (by omega))
      · exact if_pos ⟨hb, z⟩
    · exact if_neg (fun y => pg_tf y.1 hb)
theorem pg_withColour {post : Int32 → Prop} {A : Int32} {g : Nat} (h : pg_ma w c f s o a1 a2 a3) (hg : g ≤ 5) (H : post (pg_top c A g)) : wpX_withColour post (o, d, a1, a2, a3, a4, a5, a6, a7, a8) A (nI g) := by
  refine pk_loop (σ := Unit) (fun n i _ => wX_withColour_5 post A (nI g) o d a1 a2 a3 a4 a5 a6 a7 a8 n (pg_acc 0 (fun p => pg_b A p && decide (c p = g)) i) (nI i)) (fun _ _ => True) 8 0 () (by omega) trivial ?_ ?_
  · intro n _ _
    exact pk_le 8 8 (fun _ => H) (fun z => absurd z (by omega))
  · intro n i _ hi _ hw
    have hw' : ∀ x, pg_acc 0 (fun p => pg_b A p && decide (c p = g)) (i + 1) = x → wX_withColour_5 post A (nI g) o d a1 a2 a3 a4 a5 a6 a7 a8 n x (nI (i + 1)) := fun x e => by
      rw [← e]; exact hw () trivial
    have l1 : c i ≤ 5 := (h i hi).2.2.2.2.1
    have e1 := pg_at1 h hi
    refine pk_le 8 i (fun z => absurd z (by omega)) (fun _ => pg_if i (fun hb => ⟨pk_in i 8 hi, ?_⟩) (fun hb => nm_r (nI_1 i) (hw' _ ?_)) (by omega))
    · refine pk_eq (c i) g (fun z => nm_e (nm_r (nI_1 i) (hw' _ ?_))) (fun z => nm_r (nI_1 i) (hw' _ ?_)) e1 rfl (by omega) (by omega)
      · exact pg_acc_t (by rw [hb, decide_eq_true z]; rfl)
      · exact pg_acc_f (by rw [hb, decide_eq_false z]; rfl)
    · exact pg_acc_f (by rw [hb]; rfl)
theorem pg_lowOnly {post : Int32 → Prop} {X : Int32} {b : Nat} (h : pg_ma w c f s o a1 a2 a3) (hg : b ≤ 5) (H : post (pg_lo c X b)) : wpX_lowOnly post (o, d, a1, a2, a3, a4, a5, a6, a7, a8) X (nI b) := by
  refine pk_loop (σ := Unit) (fun n i _ => wX_lowOnly_5 post X (nI b) o d a1 a2 a3 a4 a5 a6 a7 a8 n (pg_acc 0 (fun q => pg_b X q && decide (c q ≤ b)) i) (nI i)) (fun _ _ => True) 8 0 () (by omega) trivial ?_ ?_
  · intro n _ _
    exact pk_le 8 8 (fun _ => H) (fun z => absurd z (by omega))
  · intro n i _ hi _ hw
    have hw' : ∀ x, pg_acc 0 (fun q => pg_b X q && decide (c q ≤ b)) (i + 1) = x → wX_lowOnly_5 post X (nI b) o d a1 a2 a3 a4 a5 a6 a7 a8 n x (nI (i + 1)) := fun x e => by
      rw [← e]; exact hw () trivial
    have l1 : c i ≤ 5 := (h i hi).2.2.2.2.1
    have e1 := pg_at1 h hi
    refine pk_le 8 i (fun z => absurd z (by omega)) (fun _ => pg_if i (fun hb => ⟨pk_in i 8 hi, ?_⟩) (fun hb => nm_r (nI_1 i) (hw' _ ?_)) (by omega))
    · refine pk_lt b (c i) (fun z => nm_r (nI_1 i) (hw' _ ?_)) (fun z => nm_e (nm_r (nI_1 i) (hw' _ ?_))) rfl e1 (by omega) (by omega)
      · exact pg_acc_f (by rw [hb, decide_eq_false (by omega)]; rfl)
      · exact pg_acc_t (by rw [hb, decide_eq_true z]; rfl)
    · exact pg_acc_f (by rw [hb]; rfl)
theorem pg_moves {post : Int32 → Prop} {p : Nat} (h : pg_ma w c f s o a1 a2 a3) (hp : p < 8) (H : post (pg_mv f s p)) : wpX_moves post (o, d, a1, a2, a3, a4, a5, a6, a7, a8) (nI p) := by
  refine ⟨pk_in p 8 hp, pk_in p 8 hp, ?_⟩
  refine sb_at (P := post) (y := pg_mv f s p) ?_ H
  rw [pg_at2 h hp, pg_at3 h hp]
  rfl
theorem pg_owner {post : Int32 → Prop} {p : Nat} (h : pg_ma w c f s o a1 a2 a3) (hp : p < 8) (H : post (nI (w p))) : wpX_owner post (o, d, a1, a2, a3, a4, a5, a6, a7, a8) (nI p) := by
  refine sb_at (P := post) (y := nI (w p)) ?_ H
  rw [pg_get o (by omega), (h p hp).1]
theorem pg_movesBy {post : Int32 → Prop} {p i : Nat} {ch : Int32} (h : pg_ma w c f s o a1 a2 a3) (hp : p < 8) (hi : i < 2) (H : post (pg_mb w f s i ch p)) : wpX_movesBy post (o, d, a1, a2, a3, a4, a5, a6, a7, a8) (nI p) (nI i) ch := by
  have hw := pg_ma_w h p hp
  unfold pg_mb at H
  unfold wpX_movesBy
  refine pg_owner (d := d) (a4 := a4) (a5 := a5) (a6 := a6) (a7 := a7) (a8 := a8) h hp ?_
  refine pk_eq (w p) i (fun z => pg_if p (fun hb => ⟨pk_in p 8 hp, ?_⟩) (fun hb => ⟨pk_in p 8 hp, ?_⟩) (by omega)) (fun z => pg_moves h hp ?_)
  · rw [if_pos z, if_pos hb] at H
    refine sb_at (P := post) (y := pg_k (s p)) ?_ H
    rw [pg_at3 h hp]
    rfl
  · rw [if_pos z, if_neg (by rw [hb]; decide)] at H
    refine sb_at (P := post) (y := pg_k (f p)) ?_ H
    rw [pg_at2 h hp]
    rfl
  · rw [if_neg z] at H
    exact H
theorem pg_f104 {post : Int32 → Prop} {J9 : Int32 → Int32 → Int32 → Prop} {J30 : Int32 → Int32 → Prop} {A S B x6 y : Int32} {p i : Nat} (h : pg_ma w c f s o a1 a2 a3) (hp : p < 8) (hi : i < 2)
    (H1 : w p ≠ i → y ≠ 0 → J30 (S ||| pg_k p) (nI (p + 1))) (H0 : w p = i ∨ y = 0 → J30 S (nI (p + 1))) : wX_forced_104 post J9 J30 (nI i) A S B x6 (nI p) y o d a1 a2 a3 a4 a5 a6 a7 a8 := by
  have hw := pg_ma_w h p hp
  refine pg_owner (d := d) (a4 := a4) (a5 := a5) (a6 := a6) (a7 := a7) (a8 := a8) h hp ?_
  exact pk_eq (w p) i (fun z => nm_r (nI_1 p) (H0 (Or.inl z))) (fun z => br_c (fun e => nm_r (nI_1 p) (H0 (Or.inr e))) (fun e => nm_e (nm_r (nI_1 p) (H1 z e))))
theorem pg_f87 {post : Int32 → Prop} {J9 : Int32 → Int32 → Int32 → Prop} {J30 : Int32 → Int32 → Prop} {A S B x6 x y : Int32} {p i : Nat} (h : pg_ma w c f s o a1 a2 a3) (hp : p < 8) (hi : i < 2)
    (H1 : (w p = i ∧ x ≠ 0) ∨ (w p ≠ i ∧ y ≠ 0) → J30 (S ||| pg_k p) (nI (p + 1))) (H0 : (w p = i ∧ x = 0) ∨ (w p ≠ i ∧ y = 0) → J30 S (nI (p + 1))) : wX_forced_87 post J9 J30 (nI i) A S B x6 (nI p) x y o d a1 a2 a3 a4 a5 a6 a7 a8 := by
  have hw := pg_ma_w h p hp
  refine pg_owner (d := d) (a4 := a4) (a5 := a5) (a6 := a6) (a7 := a7) (a8 := a8) h hp ?_
  refine pk_eq (w p) i (fun z => br_c (fun e => pg_f104 h hp hi (fun g => absurd z g) (fun _ => H0 (Or.inl ⟨z, e⟩))) (fun e => nm_e (nm_r (nI_1 p) (H1 (Or.inl ⟨z, e⟩))))) (fun z => pg_f104 h hp hi (fun _ e => H1 (Or.inr ⟨z, e⟩)) (fun y => H0 ?_))
  rcases y with e | e
  · exact absurd e z
  · exact Or.inr ⟨z, e⟩
theorem pg_f30 {post : Int32 → Prop} {J9 : Int32 → Int32 → Int32 → Prop} {A B : Int32} {i k : Nat} (h : pg_ma w c f s o a1 a2 a3) (hi : i < 2) (H : J9 (pg_step w f s i A B) B (nI (k + 1))) : ∃ n, wX_forced_30 post J9 (nI i) A B (nI k) o d a1 a2 a3 a4 a5 a6 a7 a8 n B 0 := by
  refine pk_loop (σ := Unit) (fun n j _ => wX_forced_30 post J9 (nI i) A B (nI k) o d a1 a2 a3 a4 a5 a6 a7 a8 n (pg_acc B (pg_co w f s i A B) j) (nI j)) (fun _ _ => True) 8 0 () (by omega) trivial ?_ ?_
  · intro n _ _
    exact pk_le 8 8 (fun _ => nm_r (nI_1 k) H) (fun z => absurd z (by omega))
  · intro n p _ hp _ hw
    have up : pg_co w f s i A B p = true → wX_forced_30 post J9 (nI i) A B (nI k) o d a1 a2 a3 a4 a5 a6 a7 a8 n (pg_acc B (pg_co w f s i A B) p ||| pg_k p) (nI (p + 1)) := fun e => by
      rw [← pg_acc_t e]; exact hw () trivial
    have st : pg_co w f s i A B p = false → wX_forced_30 post J9 (nI i) A B (nI k) o d a1 a2 a3 a4 a5 a6 a7 a8 n (pg_acc B (pg_co w f s i A B) p) (nI (p + 1)) := fun e => by
      have t : wX_forced_30 post J9 (nI i) A B (nI k) o d a1 a2 a3 a4 a5 a6 a7 a8 n (pg_acc B (pg_co w f s i A B) (p + 1)) (nI (p + 1)) := hw () trivial
      rw [pg_acc_f e] at t
      exact t
    refine pk_le 8 p (fun z => absurd z (by omega)) (fun _ => pg_if p (fun hb => pg_moves h hp (nm_e ?_)) (fun hb => nm_r (nI_1 p) (st ?_)) (by omega))
    · have co : pg_co w f s i A B p = (if w p = i then decide (¬ (pg_mv f s p &&& A) &&& B = 0) else decide ((pg_mv f s p &&& A) &&& (B ^^^ (-1)) = 0)) := by
        unfold pg_co
        rw [hb, Bool.true_and]
      have c1 : w p = i → pg_co w f s i A B p = decide (¬ (pg_mv f s p &&& A) &&& B = 0) := fun e => by rw [co, if_pos e]
      have c2 : w p ≠ i → pg_co w f s i A B p = decide ((pg_mv f s p &&& A) &&& (B ^^^ (-1)) = 0) := fun e => by rw [co, if_neg e]
      have o1 : (1 : Int32) ≠ 0 := by decide
      refine br_c (fun g => br_c (fun g2 => pg_f87 h hp hi (fun t => up ?_) (fun t => st ?_)) (fun g2 => pg_f87 h hp hi (fun t => up ?_) (fun t => st ?_))) (fun g => br_c (fun g2 => pg_f87 h hp hi (fun t => up ?_) (fun t => st ?_)) (fun g2 => pg_f87 h hp hi (fun t => up ?_) (fun t => st ?_)))
      · rcases t with t | t
        · exact absurd rfl t.2
        · rw [c2 t.1]; exact decide_eq_true g2
      · rcases t with t | t
        · rw [c1 t.1]; exact decide_eq_false (fun y => y g)
        · exact absurd t.2 o1
      · rcases t with t | t
        · exact absurd rfl t.2
        · exact absurd rfl t.2
      · rcases t with t | t
        · rw [c1 t.1]; exact decide_eq_false (fun y => y g)
        · rw [c2 t.1]; exact decide_eq_false g2
      · rcases t with t | t
        · rw [c1 t.1]; exact decide_eq_true g
        · rw [c2 t.1]; exact decide_eq_true g2
      · rcases t with t | t
        · exact absurd t.2 o1
        · exact absurd t.2 o1
      · rcases t with t | t
        · rw [c1 t.1]; exact decide_eq_true g
        · exact absurd rfl t.2
      · rcases t with t | t
        · exact absurd t.2 o1
        · rw [c2 t.1]; exact decide_eq_false g2
    · unfold pg_co
      rw [hb, Bool.false_and]
theorem pg_f9 {post : Int32 → Prop} {A : Int32} {i : Nat} (h : pg_ma w c f s o a1 a2 a3) (hi : i < 2) : ∀ n k S B, k + n = 9 → post (pg_it w f s i A n S B) → wX_forced_9 post (nI i) A o d a1 a2 a3 a4 a5 a6 a7 a8 (n + 1) S B (nI k) := by
  intro n
  induction n with
  | zero =>
    intro k S B hk H
    exact pk_lt 8 k (fun _ => H) (fun z => absurd z (by omega))
  | succ n ih =>
    intro k S B hk H
    refine pk_lt 8 k (fun z => absurd z (by omega)) (fun _ => br_c (fun e => ?_) (fun e => pg_f30 h hi (ih (k + 1) _ S (by omega) ?_)))
    · have r : pg_it w f s i A (n + 1) S B = S := if_pos e
      rw [r] at H
      exact H
    · have r : pg_it w f s i A (n + 1) S B = pg_it w f s i A n (pg_step w f s i A S) S := if_neg e
      rw [r] at H
      exact H
theorem pg_forced {post : Int32 → Prop} {A T : Int32} {i : Nat} (h : pg_ma w c f s o a1 a2 a3) (hi : i < 2) (H : post (pg_fc w f s i T A)) : wpX_forced post (o, d, a1, a2, a3, a4, a5, a6, a7, a8) (nI i) T A :=
  ⟨10, pg_f9 h hi 9 0 T 0 rfl H⟩
end
end
section
/-! the walks: closeWays, badCircles, isGood -/
section
variable {w c f s : Nat → Nat} {o d : Int32} {a1 a2 a3 a4 a5 a6 a7 a8 : Nat → Int32}
theorem pg_cw72 {post : St1 → Prop} {J : Int32 → (Nat → Int32) → (Nat → Int32) → (Nat → Int32) → (Nat → Int32) → (Nat → Int32) → (Nat → Int32) → (Nat → Int32) → (Nat → Int32) → Prop} {k : Nat} {a : Nat → Int32} (hk : k < 8) (h0 : ∀ j, j < 8 → a8 j = a j)
    (H : ∀ x : Nat → Int32, (∀ j, j < 8 → x j = pg_wi k 8 a j) → J (nI (k + 1)) a1 a2 a3 a4 a5 a6 a7 x) : ∃ n, wX_closeWays_72 post J (nI k) o d n 0 a1 a2 a3 a4 a5 a6 a7 a8 := by
  refine pk_loop (fun n i x => wX_closeWays_72 post J (nI k) o d n (nI i) a1 a2 a3 a4 a5 a6 a7 x) (fun i x => ∀ j, j < 8 → x j = pg_wi k i a j) 8 0 a8 (by omega) h0 ?_ ?_
  · intro n x hx
    exact pk_le 8 8 (fun _ => nm_r (nI_1 k) (H x hx)) (fun z => absurd z (by omega))
  · intro n p x hp hx hw
    have ep : x (nI p).toNatClampNeg = pg_wi k p a p := by rw [nI_clamp (by omega)]; exact hx p hp
    have ek : x (nI k).toNatClampNeg = pg_wi k p a k := by rw [nI_clamp (by omega)]; exact hx k hk
    refine pk_le 8 p (fun z => absurd z (by omega)) (fun _ => ⟨pk_in p 8 hp, pg_if k (fun hb => ⟨pk_in p 8 hp, pk_in k 8 hk, pk_in p 8 hp, nm_e (nm_r (nI_1 p) (hw _ ?_))⟩) (fun hb => nm_r (nI_1 p) (hw _ ?_)) (by omega)⟩)
    · rw [ep] at hb
      intro j hj
      rw [ep, ek, nI_clamp (show p < 2 ^ 31 by omega), pg_wi_t hb]
      by_cases e : j = p
      · rw [e, pk_us, pk_us]
      · rw [pk_un e, pk_un e]; exact hx j hj
    · rw [ep] at hb
      intro j hj
      rw [pg_wi_f hb]
      exact hx j hj
theorem pg_cw62 {post : St1 → Prop} {a : Nat → Int32} (h0 : ∀ j, j < 8 → a8 j = a j)
    (H : ∀ x : Nat → Int32, (∀ j, j < 8 → x j = pg_wo 8 a j) → post (o, d, a1, a2, a3, a4, a5, a6, a7, x)) : ∃ n, wX_closeWays_62 post o d n 0 a1 a2 a3 a4 a5 a6 a7 a8 := by
  refine pk_loop (fun n i x => wX_closeWays_62 post o d n (nI i) a1 a2 a3 a4 a5 a6 a7 x) (fun i x => ∀ j, j < 8 → x j = pg_wo i a j) 8 0 a8 (by omega) h0 ?_ ?_
  · intro n x hx
    exact pk_le 8 8 (fun _ => H x hx) (fun z => absurd z (by omega))
  · intro n k x hk hx hw
    exact pk_le 8 k (fun z => absurd z (by omega)) (fun _ => pg_cw72 hk hx (fun y hy => hw y hy))
theorem pg_closeWays {post : St1 → Prop} {i b : Nat} {ch : Int32} (h : pg_ma w c f s o a1 a2 a3) (hi : i < 2) (hb : b ≤ 5)
    (H : ∀ x : Nat → Int32, (∀ j, j < 8 → x j = pg_rc w c f s i ch b j) → post (o, d, a1, a2, a3, a4, a5, a6, a7, x)) : wpX_closeWays post (o, d, a1, a2, a3, a4, a5, a6, a7, a8) (nI i) ch (nI b) := by
  refine pk_loop (fun n p x => wX_closeWays_3 post (nI i) ch (nI b) o d n (nI p) a1 a2 a3 a4 a5 a6 a7 x) (fun p x => ∀ j, j < p → x j = pg_r0 w c f s i ch b j) 8 0 a8 (by omega) (fun j hj => absurd hj (by omega)) ?_ ?_
  · intro n x hx
    exact pk_le 8 8 (fun _ => pg_cw62 hx H) (fun z => absurd z (by omega))
  · intro n p x hp hx hw
    have l1 : c p ≤ 5 := (h p hp).2.2.2.2.1
    have e1 := pg_at1 h hp
    have ec : (nI p).toNatClampNeg = p := nI_clamp (by omega)
    refine pk_le 8 p (fun z => absurd z (by omega)) (fun _ => ⟨pk_in p 8 hp, nm_e (pg_movesBy h hp hi ⟨pk_in p 8 hp, pk_lt b (c p) (fun z => nm_r (nI_1 p) (hw _ ?_)) (fun z => pg_lowOnly h hb ⟨pk_in p 8 hp, nm_e (nm_r (nI_1 p) (hw _ ?_))⟩) rfl e1 (by omega) (by omega)⟩)⟩)
    · intro j hj
      rw [ec]
      by_cases e : j = p
      · rw [e, pk_us]
        exact (if_neg (by omega)).symm
      · rw [pk_un e]; exact hx j (by omega)
    · intro j hj
      rw [ec]
      by_cases e : j = p
      · rw [e, pk_us]
        exact (if_pos z).symm
      · rw [pk_un e, pk_un e]; exact hx j (by omega)
theorem pg_bc24 {post : Int32 → St1 → Prop} {J : Int32 → Int32 → Int32 → Int32 → (Nat → Int32) → (Nat → Int32) → (Nat → Int32) → (Nat → Int32) → (Nat → Int32) → (Nat → Int32) → (Nat → Int32) → (Nat → Int32) → Prop} {x1 x2 X : Int32} {b : Nat} {a : Nat → Int32} (h : pg_ma w c f s o a1 a2 a3) (hb : b ≤ 5) (h0 : ∀ j, j < 8 → a8 j = a j)
    (H : J (pg_acc X (fun p => decide (c p = b) && pg_b (a p) p) 8) (nI (b + 2)) o d a1 a2 a3 a4 a5 a6 a7 a8) : ∃ n, wX_badCircles_24 post J x1 x2 (nI b) o d a1 a2 a3 a4 a5 a6 a7 a8 n X 0 := by
  refine pk_loop (σ := Unit) (fun n i _ => wX_badCircles_24 post J x1 x2 (nI b) o d a1 a2 a3 a4 a5 a6 a7 a8 n (pg_acc X (fun p => decide (c p = b) && pg_b (a p) p) i) (nI i)) (fun _ _ => True) 8 0 () (by omega) trivial ?_ ?_
  · intro n _ _
    exact pk_le 8 8 (fun _ => nm_r (nI_add b 2) H) (fun z => absurd z (by omega))
  · intro n p _ hp _ hw
    have hw' : ∀ x, pg_acc X (fun p => decide (c p = b) && pg_b (a p) p) (p + 1) = x → wX_badCircles_24 post J x1 x2 (nI b) o d a1 a2 a3 a4 a5 a6 a7 a8 n x (nI (p + 1)) := fun x e => by
      rw [← e]; exact hw () trivial
    have l1 : c p ≤ 5 := (h p hp).2.2.2.2.1
    have e1 := pg_at1 h hp
    have e8 : a8 (nI p).toNatClampNeg = a p := by rw [nI_clamp (by omega)]; exact h0 p hp
    refine pk_le 8 p (fun z => absurd z (by omega)) (fun _ => ⟨pk_in p 8 hp, pk_eq (c p) b (fun z => ⟨pk_in p 8 hp, pg_if p (fun hb => nm_e (nm_r (nI_1 p) (hw' _ ?_))) (fun hb => nm_r (nI_1 p) (hw' _ ?_)) (by omega)⟩) (fun z => nm_r (nI_1 p) (hw' _ ?_)) e1 rfl (by omega) (by omega)⟩)
    · rw [e8] at hb
      exact pg_acc_t (by rw [hb, decide_eq_true z]; rfl)
    · rw [e8] at hb
      exact pg_acc_f (by rw [hb, Bool.and_false])
    · exact pg_acc_f (by rw [decide_eq_false z]; rfl)
theorem pg_bc7 {post : Int32 → St1 → Prop} {i : Nat} {ch : Int32} (h : pg_ma w c f s o a1 a2 a3) (hi : i < 2)
    (H : ∀ x : Nat → Int32, post (pg_bs w c f s i ch 3) (o, d, a1, a2, a3, a4, a5, a6, a7, x)) : ∀ n k x, k + n = 3 → wX_badCircles_7 post (nI i) ch (n + 1) (pg_bs w c f s i ch k) (nI (1 - i + 2 * k)) o d a1 a2 a3 a4 a5 a6 a7 x := by
  intro n
  induction n with
  | zero =>
    intro k x hk
    have e : k = 3 := by omega
    subst e
    exact pk_lt 5 (1 - i + 2 * 3) (fun _ => H x) (fun z => absurd z (by omega))
  | succ n ih =>
    intro k x hk
    refine pk_lt 5 (1 - i + 2 * k) (fun z => absurd z (by omega)) (fun z => pg_closeWays h hi z (fun y hy => ?_))
    exact pg_bc24 h z hy (ih (k + 1) y (by omega))
theorem pg_badCircles {post : Int32 → St1 → Prop} {i : Nat} {ch : Int32} (h : pg_ma w c f s o a1 a2 a3) (hi : i < 2)
    (H : ∀ x : Nat → Int32, post (pg_bs w c f s i ch 3) (o, d, a1, a2, a3, a4, a5, a6, a7, x)) : wpX_badCircles post (o, d, a1, a2, a3, a4, a5, a6, a7, a8) (nI i) ch :=
  nm_r (pk_sub (a := 1) (b := i) (by omega)) ⟨4, pg_bc7 h hi H 3 0 a8 rfl⟩
theorem pg_isGood {post : Int32 → St1 → Prop} {i : Nat} {ch rg : Int32} (h : pg_ma w c f s o a1 a2 a3) (hi : i < 2)
    (H1 : pg_gd w c f s i ch rg → ∀ x : Nat → Int32, post 1 (o, d, a1, a2, a3, a4, a5, a6, a7, x))
    (H0 : ¬ pg_gd w c f s i ch rg → ∀ x : Nat → Int32, post 0 (o, d, a1, a2, a3, a4, a5, a6, a7, x)) : wpX_isGood post (o, d, a1, a2, a3, a4, a5, a6, a7, a8) (nI i) ch rg := by
  refine pg_badCircles h hi (fun y => ?_)
  refine pg_closeWays (b := 5) h hi (by omega) (fun x hx => ?_)
  refine pk_loop (σ := Unit) (fun n p _ => wX_isGood_18 post rg (pg_bs w c f s i ch 3) o d a1 a2 a3 a4 a5 a6 a7 x n (nI p)) (fun p _ => ∀ q, q < p → pg_b rg q = true → (pg_rc w c f s i ch 5 q ||| pg_k q) &&& pg_bs w c f s i ch 3 = 0) 8 0 () (by omega) (fun q hq => absurd hq (by omega)) ?_ ?_
  · intro n _ hI
    exact pk_le 8 8 (fun _ => H1 hI x) (fun z => absurd z (by omega))
  · intro n p _ hp hI hw
    have e8 : x (nI p).toNatClampNeg = pg_rc w c f s i ch 5 p := by rw [nI_clamp (by omega)]; exact hx p hp
    refine pk_le 8 p (fun z => absurd z (by omega)) (fun _ => pg_if p (fun hb => ⟨pk_in p 8 hp, br_c (fun z => nm_r (nI_1 p) (hw () ?_)) (fun z => H0 (fun g => z ?_) x)⟩) (fun hb => nm_r (nI_1 p) (hw () ?_)) (by omega))
    · rw [e8] at z
      exact lt_s hI (fun _ => z)
    · rw [e8]
      exact g p hp hb
    · exact lt_s hI (fun y => pg_tf y hb)
end
end
section
/-! the walk of solve: push, begin, goOn, finish, one turn of the loop each, and the run of one level -/
section
variable {w c f s : Nat → Nat} {o : Int32} {a1 a2 a3 a4 a5 a6 a7 a8 : Nat → Int32}
theorem pg_push {post : St1 → Prop} {d : Nat} {X : Int32} (hd : d < 12) (H : post (o, nI (d + 1), a1, a2, a3, upd a4 d X, upd a5 d 0, a6, a7, a8)) : wpX_push post (o, nI d, a1, a2, a3, a4, a5, a6, a7, a8) X :=
  have ec : (nI d).toNatClampNeg = d := nI_clamp (by omega)
  ⟨pk_in d 12 hd, nm_r (by rw [ec]) ⟨pk_in d 12 hd, nm_r (by rw [ec]) (nm_r (nI_1 d) H)⟩⟩
theorem pg_par {g : Nat} (hg : g ≤ 5) : nI g &&& 1 = nI (g % 2) := pk_andN (by omega) (m := 1) 1 (by decide)
theorem pg_ci (h : pg_ma w c f s o a1 a2 a3) (A : Int32) : pg_gr c A 8 ≤ 5 := pg_gr_le A (fun p hp => (h p hp).2.2.2.2.1) 8 (by omega)
theorem pg_begin0 {post : St1 → Prop} {d : Nat} (hd : d < 12) (h4 : a4 d = 0) (H : post (o, nI d, a1, a2, a3, a4, a5, a6, upd (upd a7 0 0) 1 0, a8)) : wpX_begin post (o, nI (d + 1), a1, a2, a3, a4, a5, a6, a7, a8) (nI d) :=
  have ec : (nI d).toNatClampNeg = d := nI_clamp (by omega)
  ⟨pk_in d 12 hd, nm_r (e' := 0) (by rw [ec]; exact h4) (br_t rfl (nm_e (nm_e (nm_r (nI_pred d) H))))⟩
theorem pg_begin1 {post : St1 → Prop} {d : Nat} {A : Int32} (h : pg_ma w c f s o a1 a2 a3) (hd : d + 1 < 12) (h4 : a4 d = A) (h0 : A ≠ 0) (H : post (o, nI (d + 2), a1, a2, a3, upd a4 (d + 1) (pg_no A (pg_S w c f s A)), upd (upd a5 d 1) (d + 1) 0, a6, a7, a8)) : wpX_begin post (o, nI (d + 1), a1, a2, a3, a4, a5, a6, a7, a8) (nI d) := by
  have ec : (nI d).toNatClampNeg = d := nI_clamp (by omega)
  have hg := pg_ci h A
  refine ⟨pk_in d 12 (by omega), nm_r (e' := A) (by rw [ec]; exact h4) (br_f h0 (pg_greatest h (pg_withColour h hg ?_)))⟩
  refine sb_at (P := fun x => wpX_forced _ _ x _ _) (pg_par hg) (pg_forced h (pg_i2 c A) ⟨pk_in d 12 (by omega), nm_r (e' := upd a5 d 1) (by rw [ec]) (pg_push hd H)⟩)
theorem pg_goOn0 {post : St1 → Prop} {d : Nat} {A : Int32} (h : pg_ma w c f s o a1 a2 a3) (hd : d < 12) (h4 : a4 d = A) (hL : a7 (1 - pg_i c A) = 0) (H : post (o, nI d, a1, a2, a3, a4, a5, a6, upd a7 (pg_i c A) A, a8)) : wpX_goOn post (o, nI (d + 1), a1, a2, a3, a4, a5, a6, a7, a8) (nI d) := by
  have ec : (nI d).toNatClampNeg = d := nI_clamp (by omega)
  have hg := pg_ci h A
  have hi := pg_i2 c A
  have ei : (nI (pg_i c A)).toNatClampNeg = pg_i c A := nI_clamp (by omega)
  have es : 1 - nI (pg_i c A) = nI (1 - pg_i c A) := pk_sub (a := 1) (by omega)
  have ej : (1 - nI (pg_i c A)).toNatClampNeg = 1 - pg_i c A := by rw [es]; exact nI_clamp (by omega)
  refine ⟨pk_in d 12 hd, nm_r (e' := A) (by rw [ec]; exact h4) (pg_greatest h (nm_r (e' := nI (pg_i c A)) (pg_par hg) ⟨pk_in (1 - pg_i c A) 2 (by omega) es, nm_r (e' := 0) (by rw [ej]; exact hL) (br_t rfl ⟨pk_in _ 2 hi, nm_r (e' := upd a7 (pg_i c A) A) (by rw [ei]) (nm_r (nI_pred d) H)⟩)⟩))⟩
theorem pg_goOn1 {post : St1 → Prop} {d : Nat} {A L : Int32} (h : pg_ma w c f s o a1 a2 a3) (hd : d + 1 < 12) (h4 : a4 d = A) (hL : a7 (1 - pg_i c A) = L) (h0 : L ≠ 0) (H : post (o, nI (d + 2), a1, a2, a3, upd a4 (d + 1) (pg_no A (pg_R w c f s A L)), upd (upd a5 d 2) (d + 1) 0, upd a6 d (pg_R w c f s A L), a7, a8)) : wpX_goOn post (o, nI (d + 1), a1, a2, a3, a4, a5, a6, a7, a8) (nI d) := by
  have ec : (nI d).toNatClampNeg = d := nI_clamp (by omega)
  have hg := pg_ci h A
  have hi := pg_i2 c A
  have es : 1 - nI (pg_i c A) = nI (1 - pg_i c A) := pk_sub (a := 1) (by omega)
  have ej : (1 - nI (pg_i c A)).toNatClampNeg = 1 - pg_i c A := by rw [es]; exact nI_clamp (by omega)
  refine ⟨pk_in d 12 (by omega), nm_r (e' := A) (by rw [ec]; exact h4) (pg_greatest h (nm_r (e' := nI (pg_i c A)) (pg_par hg) ⟨pk_in (1 - pg_i c A) 2 (by omega) es, nm_r (e' := L) (by rw [ej]; exact hL) (br_f h0 ?_)⟩))⟩
  refine sb_at (P := fun x => wpX_forced _ _ x _ _) es (pg_forced h (by omega) ⟨pk_in d 12 (by omega), nm_r (e' := upd a6 d (pg_R w c f s A L)) (by rw [ec]; rfl) ⟨pk_in d 12 (by omega), nm_r (e' := upd a5 d 2) (by rw [ec]) (pg_push hd H)⟩⟩)
theorem pg_finish {post : St1 → Prop} {d : Nat} {A : Int32} (h : pg_ma w c f s o a1 a2 a3) (hd : d < 12) (h4 : a4 d = A) (H : post (o, nI d, a1, a2, a3, a4, a5, a6, upd a7 (1 - pg_i c A) (a7 (1 - pg_i c A) ||| a6 d), a8)) : wpX_finish post (o, nI (d + 1), a1, a2, a3, a4, a5, a6, a7, a8) (nI d) := by
  have ec : (nI d).toNatClampNeg = d := nI_clamp (by omega)
  have hg := pg_ci h A
  have hi := pg_i2 c A
  have es : 1 - nI (pg_i c A) = nI (1 - pg_i c A) := pk_sub (a := 1) (by omega)
  have ej : (1 - nI (pg_i c A)).toNatClampNeg = 1 - pg_i c A := by rw [es]; exact nI_clamp (by omega)
  have ea : a4 (nI d).toNatClampNeg = A := by rw [ec]; exact h4
  refine ⟨pk_in d 12 hd, sb_at (P := fun x => wpX_greatest _ _ x) ea (pg_greatest h (nm_r (e' := nI (pg_i c A)) (pg_par hg) ⟨pk_in (1 - pg_i c A) 2 (by omega) es, pk_in d 12 hd, pk_in (1 - pg_i c A) 2 (by omega) es, nm_r (e' := upd a7 (1 - pg_i c A) (a7 (1 - pg_i c A) ||| a6 d)) (by rw [ej, ec]) (nm_r (nI_pred d) H)⟩))⟩
/-- one turn of the loop, by the stage of the level on top -/
theorem pg_t0 {post : St1 → Prop} {n k d : Nat} (hk : k < 2000) (hd : d < 12) (h5 : a5 d = 0) (h4 : a4 d = 0) (H : wX_solve_14 post n (nI (k + 1)) o (nI d) a1 a2 a3 a4 a5 a6 (upd (upd a7 0 0) 1 0) a8) : wX_solve_14 post (n + 1) (nI k) o (nI (d + 1)) a1 a2 a3 a4 a5 a6 a7 a8 :=
  have ec : (nI d).toNatClampNeg = d := nI_clamp (by omega)
  pk_le 2000 k (fun z => absurd z (by omega)) (fun _ => pk_le (d + 1) 0 (fun z => absurd z (by omega)) (fun _ => nm_r (nI_pred d) ⟨pk_in d 12 hd, br_t (by rw [ec]; exact h5) (pg_begin0 hd h4 (nm_r (nI_1 k) H))⟩))
theorem pg_t1 {post : St1 → Prop} {n k d : Nat} {A : Int32} (h : pg_ma w c f s o a1 a2 a3) (hk : k < 2000) (hd : d + 1 < 12) (h5 : a5 d = 0) (h4 : a4 d = A) (h0 : A ≠ 0) (H : wX_solve_14 post n (nI (k + 1)) o (nI (d + 2)) a1 a2 a3 (upd a4 (d + 1) (pg_no A (pg_S w c f s A))) (upd (upd a5 d 1) (d + 1) 0) a6 a7 a8) : wX_solve_14 post (n + 1) (nI k) o (nI (d + 1)) a1 a2 a3 a4 a5 a6 a7 a8 :=
  have ec : (nI d).toNatClampNeg = d := nI_clamp (by omega)
  pk_le 2000 k (fun z => absurd z (by omega)) (fun _ => pk_le (d + 1) 0 (fun z => absurd z (by omega)) (fun _ => nm_r (nI_pred d) ⟨pk_in d 12 (by omega), br_t (by rw [ec]; exact h5) (pg_begin1 h hd h4 h0 (nm_r (nI_1 k) H))⟩))
theorem pg_t2 {post : St1 → Prop} {n k d : Nat} {A : Int32} (h : pg_ma w c f s o a1 a2 a3) (hk : k < 2000) (hd : d < 12) (h5 : a5 d = 1) (h4 : a4 d = A) (hL : a7 (1 - pg_i c A) = 0) (H : wX_solve_14 post n (nI (k + 1)) o (nI d) a1 a2 a3 a4 a5 a6 (upd a7 (pg_i c A) A) a8) : wX_solve_14 post (n + 1) (nI k) o (nI (d + 1)) a1 a2 a3 a4 a5 a6 a7 a8 :=
  have ec : (nI d).toNatClampNeg = d := nI_clamp (by omega)
  pk_le 2000 k (fun z => absurd z (by omega)) (fun _ => pk_le (d + 1) 0 (fun z => absurd z (by omega)) (fun _ => nm_r (nI_pred d) ⟨pk_in d 12 hd, br_f (by rw [ec, h5]; decide) ⟨pk_in d 12 hd, br_t (by rw [ec]; exact h5) (pg_goOn0 h hd h4 hL (nm_r (nI_1 k) H))⟩⟩))
theorem pg_t3 {post : St1 → Prop} {n k d : Nat} {A L : Int32} (h : pg_ma w c f s o a1 a2 a3) (hk : k < 2000) (hd : d + 1 < 12) (h5 : a5 d = 1) (h4 : a4 d = A) (hL : a7 (1 - pg_i c A) = L) (h0 : L ≠ 0) (H : wX_solve_14 post n (nI (k + 1)) o (nI (d + 2)) a1 a2 a3 (upd a4 (d + 1) (pg_no A (pg_R w c f s A L))) (upd (upd a5 d 2) (d + 1) 0) (upd a6 d (pg_R w c f s A L)) a7 a8) : wX_solve_14 post (n + 1) (nI k) o (nI (d + 1)) a1 a2 a3 a4 a5 a6 a7 a8 :=
  have ec : (nI d).toNatClampNeg = d := nI_clamp (by omega)
  pk_le 2000 k (fun z => absurd z (by omega)) (fun _ => pk_le (d + 1) 0 (fun z => absurd z (by omega)) (fun _ => nm_r (nI_pred d) ⟨pk_in d 12 (by omega), br_f (by rw [ec, h5]; decide) ⟨pk_in d 12 (by omega), br_t (by rw [ec]; exact h5) (pg_goOn1 h hd h4 hL h0 (nm_r (nI_1 k) H))⟩⟩))
theorem pg_t4 {post : St1 → Prop} {n k d : Nat} {A : Int32} (h : pg_ma w c f s o a1 a2 a3) (hk : k < 2000) (hd : d < 12) (h5 : a5 d = 2) (h4 : a4 d = A) (H : wX_solve_14 post n (nI (k + 1)) o (nI d) a1 a2 a3 a4 a5 a6 (upd a7 (1 - pg_i c A) (a7 (1 - pg_i c A) ||| a6 d)) a8) : wX_solve_14 post (n + 1) (nI k) o (nI (d + 1)) a1 a2 a3 a4 a5 a6 a7 a8 :=
  have ec : (nI d).toNatClampNeg = d := nI_clamp (by omega)
  pk_le 2000 k (fun z => absurd z (by omega)) (fun _ => pk_le (d + 1) 0 (fun z => absurd z (by omega)) (fun _ => nm_r (nI_pred d) ⟨pk_in d 12 hd, br_f (by rw [ec, h5]; decide) ⟨pk_in d 12 hd, br_f (by rw [ec, h5]; decide) (pg_finish h hd h4 (nm_r (nI_1 k) H))⟩⟩))
end
/-- the stack below a level is left as it is -/
def pg_fr (d : Nat) (a4 a5 a6 b4 b5 b6 : Nat → Int32) : Prop := ∀ j, j < d → b4 j = a4 j ∧ b5 j = a5 j ∧ b6 j = a6 j
theorem pg_run {w c f s : Nat → Nat} {o : Int32} {a1 a2 a3 a8 : Nat → Int32} {post : St1 → Prop} (h : pg_ma w c f s o a1 a2 a3) : ∀ (n : Nat) (A : Int32) (d k m : Nat) (a4 a5 a6 a7 : Nat → Int32), pg_sub A 255 → pg_tot f s A → pg_cd A 8 ≤ n → d + n < 12 → a4 d = A → a5 d = 0 → k + (pg_z w c f s n A).2 ≤ 2000 →
    (∀ b4 b5 b6 b7 : Nat → Int32, pg_fr d a4 a5 a6 b4 b5 b6 → (∀ j, j < 2 → b7 j = (pg_z w c f s n A).1 j) → wX_solve_14 post m (nI (k + (pg_z w c f s n A).2)) o (nI d) a1 a2 a3 b4 b5 b6 b7 a8) →
    wX_solve_14 post (m + (pg_z w c f s n A).2) (nI k) o (nI (d + 1)) a1 a2 a3 a4 a5 a6 a7 a8 := by
  have hfs := pg_ma_fs h
  have hw := pg_ma_w h
  have zero : ∀ (n d k m : Nat) (a4 a5 a6 a7 : Nat → Int32), d < 12 → a4 d = 0 → a5 d = 0 → k + (pg_z w c f s n 0).2 ≤ 2000 →
      (∀ b4 b5 b6 b7 : Nat → Int32, pg_fr d a4 a5 a6 b4 b5 b6 → (∀ j, j < 2 → b7 j = (pg_z w c f s n 0).1 j) → wX_solve_14 post m (nI (k + (pg_z w c f s n 0).2)) o (nI d) a1 a2 a3 b4 b5 b6 b7 a8) →
      wX_solve_14 post (m + (pg_z w c f s n 0).2) (nI k) o (nI (d + 1)) a1 a2 a3 a4 a5 a6 a7 a8 := by
    intro n d k m a4 a5 a6 a7 hd h4 h5 hk H
    rw [pg_z_0] at H hk ⊢
    have hk' : k + 1 ≤ 2000 := hk
    refine pg_t0 (by omega) hd h5 h4 (H a4 a5 a6 _ (fun j _ => ⟨rfl, rfl, rfl⟩) (fun j hj => ?_))
    rcases (show j = 0 ∨ j = 1 by omega) with e | e
    · subst e; rfl
    · subst e; rfl
  intro n
  induction n with
  | zero =>
    intro A d k m a4 a5 a6 a7 hA ht hc hd h4 h5 hk H
    have e := pg_cd_0 hA (by omega)
    subst e
    exact zero 0 d k m a4 a5 a6 a7 (by omega) h4 h5 hk H
  | succ n ih =>
    intro A d k m a4 a5 a6 a7 hA ht hc hd h4 h5 hk H
    by_cases h0 : A = 0
    · subst h0
      exact zero (n + 1) d k m a4 a5 a6 a7 (by omega) h4 h5 hk H
    · have hi := pg_i2 c A
      have at1 := pg_S_att (w := w) (c := c) hfs hA h0
      have cd1 := pg_no_cd hA at1.1 (pg_top_sub c A _) (pg_top_ne hA h0)
      have A1 : pg_sub (pg_no A (pg_S w c f s A)) 255 := pg_sub_tr (pg_no_sub _ _) hA
      have t1 := pg_tot_no ht at1
      have ans1 := pg_z_ans (c := c) hfs hw n _ A1 t1 (by omega)
      have run1 := ih (pg_no A (pg_S w c f s A)) (d + 1)
      generalize hr : pg_z w c f s n (pg_no A (pg_S w c f s A)) = r at ans1 run1
      by_cases hL : r.1 (1 - pg_i c A) = 0
      · have ez := pg_z_1 h0 hr.symm hL
        rw [ez] at H hk ⊢
        have hk' : k + (r.2 + 2) ≤ 2000 := hk
        have H' : ∀ b4 b5 b6 b7 : Nat → Int32, pg_fr d a4 a5 a6 b4 b5 b6 → (∀ j, j < 2 → b7 j = upd r.1 (pg_i c A) A j) → wX_solve_14 post m (nI (k + 1 + r.2 + 1)) o (nI d) a1 a2 a3 b4 b5 b6 b7 a8 := by
          intro b4 b5 b6 b7 x1 x2
          have t := H b4 b5 b6 b7 x1 x2
          rw [show k + 1 + r.2 + 1 = k + (r.2 + 2) by omega]
          exact t
        show wX_solve_14 post (m + (r.2 + 2)) (nI k) o (nI (d + 1)) a1 a2 a3 a4 a5 a6 a7 a8
        rw [show m + (r.2 + 2) = (m + 1) + r.2 + 1 by omega]
        refine pg_t1 h (by omega) (by omega) h5 h4 h0 (run1 (k + 1) (m + 1) _ _ a6 a7 A1 t1 (by omega) (by omega) pk_us pk_us (by omega) ?_)
        intro b4 b5 b6 b7 hf h7
        have fd := hf d (by omega)
        rw [pk_un (by omega), pk_un (by omega), pk_us] at fd
        have e7 : b7 (1 - pg_i c A) = 0 := by rw [h7 _ (by omega)]; exact hL
        refine pg_t2 h (by omega) (by omega) fd.2.1 (fd.1.trans h4) e7 (H' b4 b5 b6 _ ?_ ?_)
        · intro j hj
          have fj := hf j (by omega)
          rw [pk_un (by omega), pk_un (by omega), pk_un (by omega)] at fj
          exact fj
        · intro j hj
          by_cases e : j = pg_i c A
          · rw [e, pk_us, pk_us]
          · rw [pk_un e, pk_un e]; exact h7 j hj
      · have hj : 1 - pg_i c A < 2 := by omega
        generalize hLd : r.1 (1 - pg_i c A) = L at hL
        have sL : pg_sub L (pg_no A (pg_S w c f s A)) := by rw [← hLd]; exact ans1.1 _ hj
        have sLA : pg_sub L A := pg_sub_tr sL (pg_no_sub _ _)
        have at2 : pg_att w f s (1 - pg_i c A) A L (pg_R w c f s A L) := pg_fc_att hfs hA sLA hL
        have cd2 := pg_no_cd hA at2.1 sLA hL
        have A2 : pg_sub (pg_no A (pg_R w c f s A L)) 255 := pg_sub_tr (pg_no_sub _ _) hA
        have t2 := pg_tot_no ht at2
        have run2 := ih (pg_no A (pg_R w c f s A L)) (d + 1)
        generalize hr2 : pg_z w c f s n (pg_no A (pg_R w c f s A L)) = r2 at run2
        have ez := pg_z_2 h0 hr.symm hLd.symm hL hr2.symm
        rw [ez] at H hk ⊢
        have hk' : k + (r.2 + r2.2 + 3) ≤ 2000 := hk
        have H' : ∀ b4 b5 b6 b7 : Nat → Int32, pg_fr d a4 a5 a6 b4 b5 b6 → (∀ j, j < 2 → b7 j = upd r2.1 (1 - pg_i c A) (r2.1 (1 - pg_i c A) ||| pg_R w c f s A L) j) → wX_solve_14 post m (nI (k + 1 + r.2 + 1 + r2.2 + 1)) o (nI d) a1 a2 a3 b4 b5 b6 b7 a8 := by
          intro b4 b5 b6 b7 x1 x2
          have t := H b4 b5 b6 b7 x1 x2
          rw [show k + 1 + r.2 + 1 + r2.2 + 1 = k + (r.2 + r2.2 + 3) by omega]
          exact t
        show wX_solve_14 post (m + (r.2 + r2.2 + 3)) (nI k) o (nI (d + 1)) a1 a2 a3 a4 a5 a6 a7 a8
        rw [show m + (r.2 + r2.2 + 3) = (m + 1 + r2.2 + 1) + r.2 + 1 by omega]
        refine pg_t1 h (by omega) (by omega) h5 h4 h0 (run1 (k + 1) (m + 1 + r2.2 + 1) _ _ a6 a7 A1 t1 (by omega) (by omega) pk_us pk_us (by omega) ?_)
        intro b4 b5 b6 b7 hf h7
        have fd := hf d (by omega)
        rw [pk_un (by omega), pk_un (by omega), pk_us] at fd
        have e7 : b7 (1 - pg_i c A) = L := by rw [h7 _ (by omega)]; exact hLd
        refine pg_t3 h (by omega) (by omega) fd.2.1 (fd.1.trans h4) e7 hL (run2 (k + 1 + r.2 + 1) (m + 1) _ _ _ b7 A2 t2 (by omega) (by omega) pk_us pk_us (by omega) ?_)
        intro e4 e5 e6 e7 gf g7
        have gd := gf d (by omega)
        rw [pk_un (by omega), pk_un (by omega), pk_us, pk_us] at gd
        refine pg_t4 h (by omega) (by omega) gd.2.1 (gd.1.trans (fd.1.trans h4)) (H' e4 e5 e6 _ ?_ ?_)
        · intro j hj
          have fj := hf j (by omega)
          have gj := gf j (by omega)
          rw [pk_un (by omega), pk_un (by omega), pk_un (by omega)] at fj
          rw [pk_un (by omega), pk_un (by omega), pk_un (by omega), pk_un (by omega)] at gj
          exact ⟨gj.1.trans fj.1, gj.2.1.trans fj.2.1, gj.2.2.trans fj.2.2⟩
        · intro j hj2
          by_cases e : j = 1 - pg_i c A
          · rw [e, pk_us, pk_us, gd.2.2, g7 _ hj]
          · rw [pk_un e, pk_un e]; exact g7 j hj2
theorem pg_tot255 {f s : Nat → Nat} (hfs : ∀ p, p < 8 → f p < 8 ∧ s p < 8) : pg_tot f s 255 := by
  intro p hp
  have l := hfs p (pg_lt8 (fun q hq => hq) hp)
  refine ⟨false, ?_⟩
  rw [pg_255]
  exact decide_eq_true l.1
theorem pg_solve {w c f s : Nat → Nat} {o d : Int32} {a1 a2 a3 a4 a5 a6 a7 a8 : Nat → Int32} {post : St1 → Prop} (h : pg_ma w c f s o a1 a2 a3)
    (H : ∀ (e : Int32) (b4 b5 b6 b7 : Nat → Int32), (∀ j, j < 2 → b7 j = (pg_z w c f s 8 255).1 j) → post (o, e, a1, a2, a3, b4, b5, b6, b7, a8)) : wpX_solve post (o, d, a1, a2, a3, a4, a5, a6, a7, a8) := by
  have tt := pg_z_t w c f s 8 255
  have tb : (pg_z w c f s 8 255).2 ≤ 1021 := by
    have e : 4 * 2 ^ 8 = 1024 := by decide
    omega
  unfold wpX_solve
  refine pg_push (d := 0) (by omega) ?_
  refine ⟨1 + (pg_z w c f s 8 255).2, ?_⟩
  refine pg_run h 8 255 0 0 1 _ _ a6 a7 (fun p hp => hp) (pg_tot255 (pg_ma_fs h)) (pg_cd_le _ 8) (by omega) pk_us pk_us (by omega) ?_
  intro b4 b5 b6 b7 _ h7
  refine pk_le 2000 (0 + (pg_z w c f s 8 255).2) (fun z => absurd z (by omega)) (fun _ => pk_le 0 0 (fun _ => H _ b4 b5 b6 b7 h7) (fun z => absurd z (by omega)))
end
section
/-! the class's own members as the law calls them -/
def pg_Z (w c f s : Nat → Nat) : Nat → Int32 := (pg_z w c f s 8 255).1
theorem pg_bad {post : Int32 → Prop} {p : Nat} (hp : p < 8) (H : post 0) : wpX_bad post () (nI p) :=
  pk_lt p 0 (fun z => absurd z (by omega)) (fun _ => pk_lt p 8 (fun _ => H) (fun z => absurd z (by omega)))
theorem pg_cell {post : Int32 → Prop} {L k : Nat} {xs : Nat → Int32} (hL : L ≤ 260) (hk : k < 10) (H : ∀ x, post x) : wpL_cell post L xs () (nI k) :=
  pk_le L k (fun _ => H 0) (fun z => ⟨pk_in k L z, H _⟩)
section
variable {w c f s : Nat → Nat} {o d : Int32} {a1 a2 a3 a4 a5 a6 a7 a8 : Nat → Int32}
theorem pg_region {post : Int32 → St1 → Prop} (h : pg_ma w c f s o a1 a2 a3) (H : ∀ (e : Int32) (b4 b5 b6 b7 : Nat → Int32), post (pg_Z w c f s 0) (o, e, a1, a2, a3, b4, b5, b6, b7, a8)) : wpX_region post (o, d, a1, a2, a3, a4, a5, a6, a7, a8) := by
  unfold wpX_region
  refine pg_solve h (fun e b4 b5 b6 b7 h7 => ?_)
  show post (b7 0) (o, e, a1, a2, a3, b4, b5, b6, b7, a8)
  rw [h7 0 (by omega)]
  exact H e b4 b5 b6 b7
theorem pg_winner {post : Int32 → St1 → Prop} {p : Nat} (h : pg_ma w c f s o a1 a2 a3) (hp : p < 8) (H : ∀ (e : Int32) (b4 b5 b6 b7 : Nat → Int32), post (nI (pg_b (pg_Z w c f s 1) p).toNat) (o, e, a1, a2, a3, b4, b5, b6, b7, a8)) : wpX_winner post (o, d, a1, a2, a3, a4, a5, a6, a7, a8) (nI p) := by
  unfold wpX_winner
  refine pg_bad hp (br_t rfl (pg_solve h (fun e b4 b5 b6 b7 h7 => ?_)))
  show post ((b7 1 >>> (nI p &&& 31)) &&& 1) (o, e, a1, a2, a3, b4, b5, b6, b7, a8)
  rw [h7 1 (by omega), pg_get _ (by omega)]
  exact H e b4 b5 b6 b7
theorem pg_canForce {post : Int32 → Prop} {p : Nat} (h : pg_ma w c f s o a1 a2 a3) (hp : p < 8) (H : post 1) : wpX_canForce post (o, d, a1, a2, a3, a4, a5, a6, a7, a8) (nI p) (nI p) := by
  have kk : pg_b (pg_k p) p = true := by rw [pg_kb (by omega)]; exact decide_eq_true rfl
  have ks : pg_sub (pg_k p) 255 := fun q hq => by
    rw [pg_kb (by omega)] at hq
    have e := of_decide_eq_true hq
    rw [pg_255]
    exact decide_eq_true (by omega)
  have at1 : pg_att w f s 0 255 (pg_k p) (pg_fc w f s 0 (pg_k p) 255) := pg_fc_att (pg_ma_fs h) (fun q hq => hq) ks (pg_ne0 kk)
  unfold wpX_canForce
  refine pg_bad hp (br_t rfl (pg_bad hp (br_t rfl (pg_forced (i := 0) h (by omega) ?_))))
  exact pg_if p (fun _ => H) (fun z => pg_tf (at1.1 p kk) z) (by omega)
theorem pg_good {post : Int32 → St1 → Prop} {i : Nat} {ch : Int32} (h : pg_ma w c f s o a1 a2 a3) (hi : i < 2)
    (H1 : pg_gd w c f s i ch (pg_Z w c f s i) → ∀ (e : Int32) (b4 b5 b6 b7 b8 : Nat → Int32), post 1 (o, e, a1, a2, a3, b4, b5, b6, b7, b8))
    (H0 : ¬ pg_gd w c f s i ch (pg_Z w c f s i) → ∀ (e : Int32) (b4 b5 b6 b7 b8 : Nat → Int32), post 0 (o, e, a1, a2, a3, b4, b5, b6, b7, b8)) : wpX_good post (o, d, a1, a2, a3, a4, a5, a6, a7, a8) (nI i) ch := by
  unfold wpX_good
  refine pk_lt i 0 (fun z => absurd z (by omega)) (fun _ => pk_le i 1 (fun _ => pg_solve h (fun e b4 b5 b6 b7 h7 => ⟨pk_in i 2 hi, ?_⟩)) (fun z => absurd z (by omega)))
  have er : b7 (nI i).toNatClampNeg = pg_Z w c f s i := by rw [nI_clamp (by omega)]; exact h7 i hi
  exact sb_at (P := fun x => wpX_isGood _ _ _ _ x) er (pg_isGood h hi (fun g x => ⟨rfl, H1 g e b4 b5 b6 b7 x⟩) (fun g x => ⟨rfl, H0 g e b4 b5 b6 b7 x⟩))
theorem pg_fp31 {post : Int32 → St1 → Prop} {i N : Nat} (h : pg_ma w c f s o a1 a2 a3) (hi : i < 2) (hN : N < 256) (hg : pg_gd w c f s i (nI N) (pg_Z w c f s i)) (hl : ∀ m, m < N → ¬ pg_gd w c f s i (nI m) (pg_Z w c f s i)) (h7 : a7 i = pg_Z w c f s i)
    (H : ∀ b8 : Nat → Int32, post (nI N) (o, d, a1, a2, a3, a4, a5, a6, a7, b8)) : ∀ n k (x : Int32) (b8 : Nat → Int32), k + n = N → (x = 1 ∧ k = N) ∨ (x = 0 ∧ k < N) → wX_firstPlan_31 post (nI i) (n + 1) (nI k) x o d a1 a2 a3 a4 a5 a6 a7 b8 := by
  have er : a7 (nI i).toNatClampNeg = pg_Z w c f s i := by rw [nI_clamp (by omega)]; exact h7
  have one : ∀ k : Nat, k = N → ∀ (n : Nat) (b8 : Nat → Int32), wX_firstPlan_31 post (nI i) (n + 1) (nI k) 1 o d a1 a2 a3 a4 a5 a6 a7 b8 := fun k e n b8 => by
    subst e
    exact br_f (by decide) (H b8)
  intro n
  induction n with
  | zero =>
    intro k x b8 hk hx
    rcases hx with ⟨e, e2⟩ | ⟨e, e2⟩
    · subst e; exact one k e2 0 b8
    · omega
  | succ n ih =>
    intro k x b8 hk hx
    rcases hx with ⟨e, e2⟩ | ⟨e, e2⟩
    · subst e; exact one k e2 (n + 1) b8
    · subst e
      refine br_t rfl (pk_le 255 k (fun z => absurd z (by omega)) (fun _ => nm_r (nI_1 k) ⟨pk_in i 2 hi, ?_⟩))
      refine sb_at (P := fun x => wpX_isGood _ _ _ _ x) er (pg_isGood h hi (fun g x => ih (k + 1) 1 x (by omega) (Or.inl ⟨rfl, ?_⟩)) (fun g x => ih (k + 1) 0 x (by omega) (Or.inr ⟨rfl, ?_⟩)))
      · rcases Nat.lt_or_ge (k + 1) N with z | z
        · exact absurd g (hl _ z)
        · omega
      · rcases Nat.lt_or_ge (k + 1) N with z | z
        · exact z
        · exact absurd (show pg_gd w c f s i (nI (k + 1)) (pg_Z w c f s i) by rw [show k + 1 = N by omega]; exact hg) g
theorem pg_firstPlan {post : Int32 → St1 → Prop} {i N : Nat} (h : pg_ma w c f s o a1 a2 a3) (hi : i < 2) (hN : N < 256) (hg : pg_gd w c f s i (nI N) (pg_Z w c f s i)) (hl : ∀ m, m < N → ¬ pg_gd w c f s i (nI m) (pg_Z w c f s i))
    (H : ∀ (e : Int32) (b4 b5 b6 b7 b8 : Nat → Int32), post (nI N) (o, e, a1, a2, a3, b4, b5, b6, b7, b8)) : wpX_firstPlan post (o, d, a1, a2, a3, a4, a5, a6, a7, a8) (nI i) := by
  unfold wpX_firstPlan
  refine pk_lt i 0 (fun z => absurd z (by omega)) (fun _ => pk_le i 1 (fun _ => pg_solve h (fun e b4 b5 b6 b7 h7 => ⟨pk_in i 2 hi, ?_⟩)) (fun z => absurd z (by omega)))
  have er : b7 (nI i).toNatClampNeg = pg_Z w c f s i := by rw [nI_clamp (by omega)]; exact h7 i hi
  refine sb_at (P := fun x => wpX_isGood _ _ _ _ x) er (pg_isGood h hi (fun g x => ⟨N + 1, pg_fp31 h hi hN hg hl (h7 i hi) (H e b4 b5 b6 b7) N 0 1 x (by omega) (Or.inl ⟨rfl, ?_⟩)⟩) (fun g x => ⟨N + 1, pg_fp31 h hi hN hg hl (h7 i hi) (H e b4 b5 b6 b7) N 0 0 x (by omega) (Or.inr ⟨rfl, ?_⟩)⟩))
  · rcases Nat.eq_zero_or_pos N with z | z
    · exact z.symm
    · exact absurd g (hl 0 z)
  · rcases Nat.eq_zero_or_pos N with z | z
    · exact absurd (show pg_gd w c f s i (nI 0) (pg_Z w c f s i) by rw [← z]; exact hg) g
    · exact z
theorem pg_paint {post : Int32 → St1 → Prop} {p q : Nat} (hp : p < 8) (hq : q ≤ 5) (H : ∀ r, post r (o, d, upd a1 p (nI q), a2, a3, a4, a5, a6, a7, a8)) : wpX_paint post (o, d, a1, a2, a3, a4, a5, a6, a7, a8) (nI p) (nI q) := by
  have ec : (nI p).toNatClampNeg = p := nI_clamp (by omega)
  unfold wpX_paint
  exact pg_bad hp (br_t rfl (pk_lt q 0 (fun z => absurd z (by omega)) (fun _ => pk_le q 5 (fun _ => ⟨pk_in p 8 hp, nm_e ⟨pk_in p 8 hp, nm_r (e' := upd a1 p (nI q)) (by rw [ec]) (H _)⟩⟩) (fun z => absurd z (by omega)))))
theorem pg_set {post : Int32 → St1 → Prop} {p : Nat} {x : Int32} (hp : p < 8) (H : ∀ (e : Int32) (q u v : Nat), q ≤ 5 → u < 8 → v < 8 → post 0 (e, d, upd a1 p (nI q), upd a2 p (nI u), upd a3 p (nI v), a4, a5, a6, a7, a8)) : wpL_set post (o, d, a1, a2, a3, a4, a5, a6, a7, a8) (nI p) x := by
  have ec : (nI p).toNatClampNeg = p := nI_clamp (by omega)
  obtain ⟨b, hb, eb⟩ := pk_andE x 1 (m := 1) (by decide)
  obtain ⟨t, ht, et⟩ := pk_andE (x >>> ((1 : Int32) &&& 31)) 4 (m := 15) (by decide)
  obtain ⟨u, hu, eu⟩ := pk_andE ((x >>> ((5 : Int32) &&& 31)) &&& 63) 3 (m := 7) (by decide)
  obtain ⟨v, hv, ev⟩ := pk_andE (((x >>> ((5 : Int32) &&& 31)) &&& 63) >>> ((3 : Int32) &&& 31)) 3 (m := 7) (by decide)
  have eq : ((x >>> ((1 : Int32) &&& 31)) &&& 15) - ((x >>> ((1 : Int32) &&& 31)) &&& 15) / 6 * 6 = nI (t % 6) := by
    rw [et]
    exact pk_rem (d := 6) (by omega) (by omega) (by omega)
  have hq : t % 6 ≤ 5 := by omega
  unfold wpL_set
  refine ⟨by decide, ?_⟩
  rw [eb, eq]
  unfold wpX_set
  exact pg_bad hp (br_t rfl (pk_lt b 0 (fun z => absurd z (by omega)) (fun _ => pk_le b 1 (fun _ => pk_lt (t % 6) 0 (fun z => absurd z (by omega)) (fun _ => pk_le (t % 6) 5 (fun _ => nm_e ⟨pk_in p 8 hp, nm_r (e' := upd a1 p (nI (t % 6))) (by rw [ec]) ⟨pk_in p 8 hp, nm_r (e' := upd a2 p (nI u)) (by rw [ec, eu]) ⟨pk_in p 8 hp, nm_r (e' := upd a3 p (nI v)) (by rw [ec, ev]) (H _ _ u v hq hu hv)⟩⟩⟩) (fun z => absurd z (by omega)))) (fun z => absurd z (by omega)))))
end
/-- the colours of the law's last part -/
theorem pg_col (r : Int32) (k : Int32) {od : Nat} (ho : od < 2) : ∃ q, q ≤ 5 ∧ q % 2 = od ∧ (2 * (((r >>> (k &&& 31)) &&& 3) - ((r >>> (k &&& 31)) &&& 3) / 3 * 3)) + nI od = nI q := by
  obtain ⟨t, ht, et⟩ := pk_andE (r >>> (k &&& 31)) 2 (m := 3) (by decide)
  refine ⟨2 * (t % 3) + od, by omega, by omega, ?_⟩
  have er : nI t - nI t / 3 * 3 = nI (t % 3) := pk_rem (d := 3) (by omega) (by omega) (by omega)
  have em : 2 * nI (t % 3) = nI (2 * (t % 3)) := pk_mul 2 (t % 3)
  rw [et, er, em, nI_add]
end
section
/-! the law's loops, from the last to the first -/
theorem pg_l164 {post : Int32 → Prop} {L kc ks : Nat} {xs : Nat → Int32} {w c f s : Nat → Nat} {o d : Int32} {a1 a2 a3 a4 a5 a6 a7 a8 : Nat → Int32} {od : Nat} (hL : L ≤ 260) (h : pg_ma w c f s o a1 a2 a3) (ho : od < 2) (H : post 1) : ∃ n, wL_law_164 post L xs (nI od) kc ks n 0 o d a1 a2 a3 a4 a5 a6 a7 a8 := by
  refine pk_loop (fun n i x => wL_law_164 post L xs (nI od) kc ks n (nI i) o d x a2 a3 a4 a5 a6 a7 a8) (fun i x => ∀ p, p < 8 → ∃ q, q ≤ 5 ∧ x p = nI q ∧ (p < i → q % 2 = od)) 8 0 a1 (by omega) ?_ ?_ ?_
  · intro p hp
    have hh := h p hp
    exact ⟨c p, hh.2.2.2.2.1, hh.2.1, fun z => absurd z (by omega)⟩
  · intro n x hx
    have ma : pg_ma w (fun p => (x p).toNatClampNeg) f s o x a2 a3 := by
      intro p hp
      have hh := h p hp
      obtain ⟨q, q1, q2, _⟩ := hx p hp
      have eq : (x p).toNatClampNeg = q := by rw [q2]; exact nI_clamp (by omega)
      refine ⟨hh.1, ?_, hh.2.2.1, hh.2.2.2.1, ?_, hh.2.2.2.2.2⟩
      · show x p = nI (x p).toNatClampNeg
        rw [eq, q2]
      · show (x p).toNatClampNeg ≤ 5
        omega
    have pa : ∀ p, p < 8 → (fun p => (x p).toNatClampNeg) p % 2 = od := by
      intro p hp
      obtain ⟨q, q1, q2, q3⟩ := hx p hp
      have eq : (x p).toNatClampNeg = q := by rw [q2]; exact nI_clamp (by omega)
      show (x p).toNatClampNeg % 2 = od
      rw [eq]
      exact q3 hp
    have zz := pg_z_par (w := w) (pg_ma_fs ma) pa 8 255 (fun q hq => hq) (pg_cd_le _ 8)
    refine pk_le 8 8 (fun _ => pg_region ma (fun e b4 b5 b6 b7 => pk_eq od 0 (fun z => br_t ?_ H) (fun z => br_t ?_ H))) (fun z => absurd z (by omega))
    · subst z
      exact zz.1
    · have e1 : od = 1 := by omega
      subst e1
      exact zz.2
  · intro n i x hi hx hw
    refine pk_le 8 i (fun z => absurd z (by omega)) (fun _ => pg_cell (k := 9) hL (by omega) (fun r => ⟨by decide, ?_⟩))
    obtain ⟨q, q1, q2, q3⟩ := pg_col r (2 * nI i) ho
    refine sb_at (P := fun y => wpX_paint _ _ _ y) q3 (pg_paint hi q1 (fun _ => nm_r (nI_1 i) (hw _ ?_)))
    intro p hp
    by_cases e : p = i
    · rw [e, pk_us]
      exact ⟨q, q1, rfl, fun _ => q2⟩
    · rw [pk_un e]
      obtain ⟨t, t1, t2, t3⟩ := hx p hp
      exact ⟨t, t1, t2, fun z => t3 (by omega)⟩
abbrev pg_T : Type := Int32 × (Nat → Int32) × (Nat → Int32) × (Nat → Int32) × (Nat → Int32) × (Nat → Int32)
theorem pg_l121 {post : Int32 → Prop} {L kc ks : Nat} {xs : Nat → Int32} {w c f s : Nat → Nat} {o d : Int32} {a1 a2 a3 a4 a5 a6 a7 a8 : Nat → Int32} {i N : Nat} {J : Int32 → Int32 → Int32 → (Nat → Int32) → (Nat → Int32) → (Nat → Int32) → (Nat → Int32) → (Nat → Int32) → (Nat → Int32) → (Nat → Int32) → (Nat → Int32) → Prop} (h : pg_ma w c f s o a1 a2 a3) (hi : i < 2) (hN : N < 256) (hl : ∀ m, m < N → ¬ pg_gd w c f s i (nI m) (pg_Z w c f s i))
    (H : ∀ (e : Int32) (b4 b5 b6 b7 b8 : Nat → Int32), J (nI (i + 1)) o e a1 a2 a3 b4 b5 b6 b7 b8) : ∃ n, wL_law_121 post L xs J (nI i) (nI N) kc ks n 0 o d a1 a2 a3 a4 a5 a6 a7 a8 := by
  refine pk_loop (σ := pg_T) (fun n k t => wL_law_121 post L xs J (nI i) (nI N) kc ks n (nI k) o t.1 a1 a2 a3 t.2.1 t.2.2.1 t.2.2.2.1 t.2.2.2.2.1 t.2.2.2.2.2) (fun _ _ => True) N 0 (d, a4, a5, a6, a7, a8) (by omega) trivial ?_ ?_
  · intro n t _
    exact pk_le N N (fun _ => nm_r (nI_1 i) (H _ _ _ _ _ _)) (fun z => absurd z (by omega))
  · intro n k t hk _ hw
    exact pk_le N k (fun z => absurd z (by omega)) (fun _ => pg_good h hi (fun g => absurd g (hl k hk)) (fun g e b4 b5 b6 b7 b8 => br_t rfl (nm_r (nI_1 k) (hw (e, b4, b5, b6, b7, b8) trivial))))
theorem pg_l89 {post : Int32 → Prop} {L kc ks : Nat} {xs : Nat → Int32} {w c f s : Nat → Nat} {o d : Int32} {a1 a2 a3 a4 a5 a6 a7 a8 : Nat → Int32} (hL : L ≤ 260) (h : pg_ma w c f s o a1 a2 a3) (H : post 1) : ∃ n, wL_law_89 post L xs kc ks n 0 o d a1 a2 a3 a4 a5 a6 a7 a8 := by
  have ans : pg_ans w c f s 255 (pg_Z w c f s) := pg_z_ans (pg_ma_fs h) (pg_ma_w h) 8 255 (fun q hq => hq) (pg_tot255 (pg_ma_fs h)) (pg_cd_le _ 8)
  refine pk_loop (σ := pg_T) (fun n k t => wL_law_89 post L xs kc ks n (nI k) o t.1 a1 a2 a3 t.2.1 t.2.2.1 t.2.2.2.1 t.2.2.2.2.1 t.2.2.2.2.2) (fun _ _ => True) 2 0 (d, a4, a5, a6, a7, a8) (by omega) trivial ?_ ?_
  · intro n t _
    refine pk_le 2 2 (fun _ => pg_cell (k := 8) hL (by omega) (fun r => ?_)) (fun z => absurd z (by omega))
    obtain ⟨od, ho, e⟩ := pk_andE r 1 (m := 1) (by decide)
    exact nm_r e (pg_l164 hL h ho H)
  · intro n i t hi _ hw
    obtain ⟨N0, n1, n2⟩ := pg_gd_ex (pg_ma_fs h) hi (ans.1 i hi) (ans.2.2 i hi)
    obtain ⟨N, g, hl⟩ := pk_least (fun m => pg_gd w c f s i (nI m) (pg_Z w c f s i)) ⟨N0, n2⟩
    have hN : N < 256 := by
      rcases Nat.lt_or_ge N0 N with z | z
      · exact absurd n2 (hl N0 z)
      · omega
    exact pk_le 2 i (fun z => absurd z (by omega)) (fun _ => pg_firstPlan h hi hN g hl (fun e b4 b5 b6 b7 b8 => pk_lt N 0 (fun z => absurd z (by omega)) (fun _ => pg_good h hi (fun _ e b4 b5 b6 b7 b8 => br_f (by decide) (pg_l121 h hi hN hl (fun e b4 b5 b6 b7 b8 => hw (e, b4, b5, b6, b7, b8) trivial))) (fun y => absurd g y))))
theorem pg_l67 {post : Int32 → Prop} {L kc ks : Nat} {xs : Nat → Int32} {w c f s : Nat → Nat} {o d : Int32} {a1 a2 a3 a4 a5 a6 a7 a8 : Nat → Int32} {p : Nat} {x2 z0 z1 : Int32} {J : Int32 → Int32 → Int32 → (Nat → Int32) → (Nat → Int32) → (Nat → Int32) → (Nat → Int32) → (Nat → Int32) → (Nat → Int32) → (Nat → Int32) → (Nat → Int32) → Prop} (h : pg_ma w c f s o a1 a2 a3) (hp : p < 8) (e : z1 = z0) (H : J (nI (p + 1)) o d a1 a2 a3 a4 a5 a6 a7 a8) : wL_law_67 post L xs J x2 (nI p) z0 z1 kc ks o d a1 a2 a3 a4 a5 a6 a7 a8 :=
  br_t e (pg_canForce h hp (br_f (by decide) (nm_r (nI_1 p) H)))
theorem pg_l42 {post : Int32 → Prop} {L kc ks : Nat} {xs : Nat → Int32} {w c f s : Nat → Nat} {o d : Int32} {a1 a2 a3 a4 a5 a6 a7 a8 : Nat → Int32} (hL : L ≤ 260) (h : pg_ma w c f s o a1 a2 a3) (H : post 1) : ∃ n, wL_law_42 post L xs (pg_Z w c f s 0) kc ks n 0 o d a1 a2 a3 a4 a5 a6 a7 a8 := by
  have ans : pg_ans w c f s 255 (pg_Z w c f s) := pg_z_ans (pg_ma_fs h) (pg_ma_w h) 8 255 (fun q hq => hq) (pg_tot255 (pg_ma_fs h)) (pg_cd_le _ 8)
  refine pk_loop (σ := pg_T) (fun n k t => wL_law_42 post L xs (pg_Z w c f s 0) kc ks n (nI k) o t.1 a1 a2 a3 t.2.1 t.2.2.1 t.2.2.2.1 t.2.2.2.2.1 t.2.2.2.2.2) (fun _ _ => True) 8 0 (d, a4, a5, a6, a7, a8) (by omega) trivial ?_ ?_
  · intro n t _
    exact pk_le 8 8 (fun _ => pg_l89 hL h H) (fun z => absurd z (by omega))
  · intro n p t hp _ hw
    have cov := ans.2.1 p (by rw [pg_255]; exact decide_eq_true hp)
    refine pk_le 8 p (fun z => absurd z (by omega)) (fun _ => pg_winner h hp (fun e b4 b5 b6 b7 => pg_if p (fun hb => pg_l67 h hp ?_ (hw (e, b4, b5, b6, b7, _) trivial)) (fun hb => pg_l67 h hp ?_ (hw (e, b4, b5, b6, b7, _) trivial)) (by omega)))
    · rw [hb] at cov
      have e1 : pg_b (pg_Z w c f s 1) p = false := by
        cases z : pg_b (pg_Z w c f s 1) p
        · rfl
        · rw [z] at cov; exact Bool.noConfusion cov
      rw [e1]
      rfl
    · rw [hb] at cov
      have e1 : pg_b (pg_Z w c f s 1) p = true := by
        cases z : pg_b (pg_Z w c f s 1) p
        · rw [z] at cov; exact Bool.noConfusion cov
        · rfl
      rw [e1]
      rfl
abbrev pg_U : Type := Int32 × (Nat → Int32) × (Nat → Int32) × (Nat → Int32)
theorem pg_l10 {post : Int32 → Prop} {L kc ks : Nat} {xs : Nat → Int32} {o d : Int32} {a1 a2 a3 a4 a5 a6 a7 a8 : Nat → Int32} (hL : L ≤ 260) (H : post 1) : ∃ n, wL_law_10 post L xs kc ks n 0 o d a1 a2 a3 a4 a5 a6 a7 a8 := by
  refine pk_loop (σ := pg_U) (fun n k t => wL_law_10 post L xs kc ks n (nI k) t.1 d t.2.1 t.2.2.1 t.2.2.2 a4 a5 a6 a7 a8) (fun k t => ∀ p, p < k → ∃ q u v : Nat, q ≤ 5 ∧ u < 8 ∧ v < 8 ∧ t.2.1 p = nI q ∧ t.2.2.1 p = nI u ∧ t.2.2.2 p = nI v) 8 0 (o, a1, a2, a3) (by omega) (fun p hp => absurd hp (by omega)) ?_ ?_
  · intro n t ht
    obtain ⟨o, a1, a2, a3⟩ := t
    have ma : pg_ma (fun p => (pg_b o p).toNat) (fun p => (a1 p).toNatClampNeg) (fun p => (a2 p).toNatClampNeg) (fun p => (a3 p).toNatClampNeg) o a1 a2 a3 := by
      intro p hp
      obtain ⟨q, u, v, hq, hu, hv, e1, e2, e3⟩ := ht p hp
      have e1' : a1 p = nI q := e1
      have e2' : a2 p = nI u := e2
      have e3' : a3 p = nI v := e3
      have f1 : (a1 p).toNatClampNeg = q := by rw [e1']; exact nI_clamp (by omega)
      have f2 : (a2 p).toNatClampNeg = u := by rw [e2']; exact nI_clamp (by omega)
      have f3 : (a3 p).toNatClampNeg = v := by rw [e3']; exact nI_clamp (by omega)
      refine ⟨rfl, ?_, ?_, ?_, ?_, ?_, ?_⟩
      · show a1 p = nI (a1 p).toNatClampNeg
        rw [f1, e1']
      · show a2 p = nI (a2 p).toNatClampNeg
        rw [f2, e2']
      · show a3 p = nI (a3 p).toNatClampNeg
        rw [f3, e3']
      · show (a1 p).toNatClampNeg ≤ 5
        omega
      · show (a2 p).toNatClampNeg < 8
        omega
      · show (a3 p).toNatClampNeg < 8
        omega
    exact pk_le 8 8 (fun _ => pg_region ma (fun e b4 b5 b6 b7 => pg_l42 hL ma H)) (fun z => absurd z (by omega))
  · intro n k t hk ht hw
    refine pk_le 8 k (fun z => absurd z (by omega)) (fun _ => pg_cell hL (by omega) (fun r => pg_set hk (fun e q u v hq hu hv => nm_r (nI_1 k) (hw (e, upd t.2.1 k (nI q), upd t.2.2.1 k (nI u), upd t.2.2.2 k (nI v)) ?_))))
    intro p hp
    show ∃ q' u' v' : Nat, q' ≤ 5 ∧ u' < 8 ∧ v' < 8 ∧ upd t.2.1 k (nI q) p = nI q' ∧ upd t.2.2.1 k (nI u) p = nI u' ∧ upd t.2.2.2 k (nI v) p = nI v'
    by_cases e : p = k
    · rw [e, pk_us, pk_us, pk_us]
      exact ⟨q, u, v, hq, hu, hv, rfl, rfl, rfl⟩
    · rw [pk_un e, pk_un e, pk_un e]
      exact ht p (by omega)
theorem pg_init {post : St1 → Prop} (H : ∀ x y : Nat → Int32, post (0, 0, (fun _ => 0), x, y, (fun _ => 0), (fun _ => 0), (fun _ => 0), (fun _ => 0), (fun _ => 0))) : wpX_init post 8 70 (0, 0) := by
  refine ⟨by omega, by omega, by omega, by omega, by omega, by omega, by omega, by omega, by omega, by omega, by omega, by omega, by omega, by omega, by omega, by omega, ?_⟩
  refine pk_loop (σ := (Nat → Int32) × (Nat → Int32)) (fun n k t => wX_init_69 post 8 70 8 70 0 0 n (nI k) (fun _ => 0) t.1 t.2 (fun _ => 0) (fun _ => 0) (fun _ => 0) (fun _ => 0) (fun _ => 0)) (fun _ _ => True) 8 0 ((fun _ => 0), (fun _ => 0)) (by omega) trivial ?_ ?_
  · intro n t _
    exact pk_le 8 8 (fun _ => H _ _) (fun z => absurd z (by omega))
  · intro n k t hk _ hw
    exact pk_le 8 k (fun z => absurd z (by omega)) (fun _ => ⟨pk_in k 8 hk, nm_e ⟨pk_in k 8 hk, nm_e (nm_r (nI_1 k) (hw (_, _) trivial))⟩⟩)
theorem i_vc (xs : Nat → Int32) (L : Nat) (hL : L ≤ 260) : wpL_law (fun r => r = 1) L xs :=
  ⟨8, 70, by omega, by omega, pg_init (fun _ _ => pg_l10 hL rfl)⟩
end
