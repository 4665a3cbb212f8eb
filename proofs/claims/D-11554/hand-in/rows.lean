section
/-! bits of an Int32 (rows turned from kit/laws/BITS.to-paste), and counting -/
def rb_b (x : Int32) (i : Nat) : Bool := x.toBitVec.getLsbD i
theorem rb_ext {x y : Int32} (h : ∀ i, i < 32 → rb_b x i = rb_b y i) : x = y := Int32.toBitVec_inj.mp (BitVec.eq_of_getLsbD_eq (fun i hi => h i hi))
theorem rb_or (x y : Int32) (i : Nat) : rb_b (x ||| y) i = (rb_b x i || rb_b y i) := by unfold rb_b; rw [Int32.toBitVec_or, BitVec.getLsbD_or]
theorem rb_and (x y : Int32) (i : Nat) : rb_b (x &&& y) i = (rb_b x i && rb_b y i) := by unfold rb_b; rw [Int32.toBitVec_and, BitVec.getLsbD_and]
theorem rb_xor (x y : Int32) (i : Nat) : rb_b (x ^^^ y) i = (rb_b x i ^^ rb_b y i) := by unfold rb_b; rw [Int32.toBitVec_xor, BitVec.getLsbD_xor]
theorem rb_big {x : Int32} {i : Nat} (h : 32 ≤ i) : rb_b x i = false := BitVec.getLsbD_of_ge _ _ h
theorem rb_m1 : ∀ i, i < 32 → rb_b (-1) i = true := by decide +kernel
theorem rb_0 (i : Nat) : rb_b 0 i = false := BitVec.getLsbD_zero
theorem rb_sl : ∀ n, n < 32 → ((nI n &&& 31).toBitVec.smod 32).toNat = n := by decide +kernel
theorem rb_sshr (n : Nat) (hn : n < 32) (x : Int32) {i : Nat} (hi : i < 32) : rb_b (x >>> (nI n &&& 31)) i = if n + i < 32 then rb_b x (n + i) else rb_b x 31 := by
  unfold rb_b
  rw [Int32.toBitVec_shiftRight]
  show (x.toBitVec.sshiftRight ((nI n &&& 31).toBitVec.smod 32).toNat).getLsbD i = _
  rw [rb_sl n hn, BitVec.getLsbD_sshiftRight, BitVec.msb_eq_getLsbD_last]
  simp [hi]
theorem rb_not (x : Int32) {i : Nat} (hi : i < 32) : rb_b (x ^^^ (-1)) i = !rb_b x i := by rw [rb_xor, rb_m1 i hi, Bool.xor_true]
theorem rb_1 (i : Nat) : rb_b 1 i = decide (i = 0) := by
  rcases Nat.lt_or_ge i 32 with h | h
  · exact (by decide +kernel : ∀ i, i < 32 → rb_b 1 i = decide (i = 0)) i h
  · rw [rb_big h, decide_eq_false (by omega)]
theorem rb_m18 (i : Nat) : rb_b 262143 i = decide (i < 18) := by
  rcases Nat.lt_or_ge i 32 with h | h
  · exact (by decide +kernel : ∀ i, i < 32 → rb_b 262143 i = decide (i < 18)) i h
  · rw [rb_big h, decide_eq_false (by omega)]
theorem rb_t18 (i : Nat) : rb_b 262144 i = decide (i = 18) := by
  rcases Nat.lt_or_ge i 32 with h | h
  · exact (by decide +kernel : ∀ i, i < 32 → rb_b 262144 i = decide (i = 18)) i h
  · rw [rb_big h, decide_eq_false (by omega)]
/-- one bit -/
def rb_one (n : Nat) : Int32 := (1 : Int32) <<< (nI n &&& 31)
theorem rb_one32 : ∀ n, n < 32 → ∀ i, i < 32 → rb_b (rb_one n) i = decide (i = n) := by decide +kernel
theorem rb_oneB {n : Nat} (hn : n < 32) (i : Nat) : rb_b (rb_one n) i = decide (i = n) := by
  rcases Nat.lt_or_ge i 32 with h | h
  · exact rb_one32 n hn i h
  · rw [rb_big h, decide_eq_false (by omega)]
theorem rb_bit (x : Int32) {n : Nat} (hn : n < 32) : (x >>> (nI n &&& 31)) &&& 1 = nI (rb_b x n).toNat := by
  have e : ∀ b : Bool, ∀ i, i < 32 → rb_b (nI b.toNat) i = (b && decide (i = 0)) := by decide +kernel
  apply rb_ext
  intro i hi
  rw [rb_and, rb_1, e _ i hi]
  by_cases h : i = 0
  · subst h
    rw [rb_sshr n hn x hi, if_pos (by omega)]
    rfl
  · rw [decide_eq_false h, Bool.and_false, Bool.and_false]
theorem rb_tst (x : Int32) {n : Nat} (hn : n < 32) : (x >>> (nI n &&& 31)) &&& 1 = 0 ↔ rb_b x n = false := by
  rw [rb_bit x hn]
  cases rb_b x n
  · exact ⟨fun _ => rfl, fun _ => rfl⟩
  · exact ⟨fun h => absurd h (by decide), fun h => absurd h (by decide)⟩
theorem rb_nf {x : Bool} (h : ¬ x = false) : x = true := by cases x; exact absurd rfl h; rfl
theorem rb_nt {x : Bool} (h : ¬ x = true) : x = false := by cases x; rfl; exact absurd rfl h
theorem rb_byte : ∀ n, n < 128 → (nI n).toInt8.toInt32 = nI n := by decide +kernel
theorem rb_or0 (x : Int32) : x ||| 0 = x := rb_ext (fun i _ => by rw [rb_or, rb_0, Bool.or_false])
theorem rb_0or (x : Int32) : 0 ||| x = x := rb_ext (fun i _ => by rw [rb_or, rb_0, Bool.false_or])
/-- how many below n -/
def rb_cnt (P : Nat → Bool) : Nat → Nat
  | 0 => 0
  | n + 1 => rb_cnt P n + (P n).toNat
theorem rb_cnt_split {P Q R : Nat → Bool} (n : Nat) (h : ∀ i, i < n → (P i).toNat = (Q i).toNat + (R i).toNat) : rb_cnt P n = rb_cnt Q n + rb_cnt R n := by
  induction n with
  | zero => rfl
  | succ n ih =>
    have h1 := ih (fun i hi => h i (by omega))
    have h2 := h n (by omega)
    show rb_cnt P n + (P n).toNat = (rb_cnt Q n + (Q n).toNat) + (rb_cnt R n + (R n).toNat)
    omega
theorem rb_cnt_le {P Q : Nat → Bool} (n : Nat) (h : ∀ i, i < n → P i = true → Q i = true) : rb_cnt P n ≤ rb_cnt Q n := by
  induction n with
  | zero => exact Nat.le_refl 0
  | succ n ih =>
    have h1 := ih (fun i hi => h i (by omega))
    have h2 : (P n).toNat ≤ (Q n).toNat := by
      cases hp : P n
      · exact Nat.zero_le _
      · rw [h n (by omega) hp]; exact Nat.le_refl 1
    show rb_cnt P n + (P n).toNat ≤ rb_cnt Q n + (Q n).toNat
    omega
theorem rb_cnt_cg {P Q : Nat → Bool} (n : Nat) (h : ∀ i, i < n → P i = Q i) : rb_cnt P n = rb_cnt Q n :=
  Nat.le_antisymm (rb_cnt_le n (fun i hi hp => (h i hi) ▸ hp)) (rb_cnt_le n (fun i hi hp => (h i hi).symm ▸ hp))
theorem rb_cnt_true (n : Nat) : rb_cnt (fun _ => true) n = n := by
  induction n with
  | zero => rfl
  | succ n ih => show rb_cnt (fun _ => true) n + 1 = n + 1; rw [ih]
theorem rb_cnt_false (n : Nat) : rb_cnt (fun _ => false) n = 0 := by
  induction n with
  | zero => rfl
  | succ n ih => show rb_cnt (fun _ => false) n + 0 = 0; rw [ih]
theorem rb_cnt_n (P : Nat → Bool) (n : Nat) : rb_cnt P n ≤ n := by
  have h := rb_cnt_le (P := P) (Q := fun _ => true) n (fun _ _ _ => rfl)
  rw [rb_cnt_true] at h
  exact h
theorem rb_cnt_pre (P : Nat → Bool) {m n : Nat} (h : m ≤ n) : rb_cnt P m ≤ rb_cnt P n := by
  induction n with
  | zero => rw [Nat.le_zero.mp h]; exact Nat.le_refl _
  | succ n ih =>
    rcases Nat.lt_or_ge n m with z | z
    · rw [show m = n + 1 by omega]; exact Nat.le_refl _
    · exact Nat.le_trans (ih z) (Nat.le_add_right _ _)
theorem rb_cnt_at (g : Nat) (n : Nat) : rb_cnt (fun i => decide (i = g)) n = if g < n then 1 else 0 := by
  induction n with
  | zero => rfl
  | succ n ih =>
    show rb_cnt (fun i => decide (i = g)) n + (decide (n = g)).toNat = _
    rw [ih]
    by_cases h1 : n = g
    · rw [decide_eq_true h1, if_neg (by omega), if_pos (by omega)]; rfl
    · rw [decide_eq_false h1]
      by_cases h2 : g < n
      · rw [if_pos h2, if_pos (by omega)]; rfl
      · rw [if_neg h2, if_neg (by omega)]; rfl
/-- not in the mask, below 18 -/
def rb_un (x : Int32) : Nat := rb_cnt (fun i => !rb_b x i) 18
end
section
/-! sourcesTo and membersOf -/
/-- S is the least set that holds g and is closed under N -/
def rt_src (N : Nat → Int32) (g : Nat) (S : Int32) : Prop :=
  rb_b S g = true ∧ (∀ k, rb_b S k = true → k < 18) ∧
  (∀ C : Nat → Prop, C g → (∀ i, C i → ∀ k, rb_b (N i) k = true → C k) → ∀ i, rb_b S i = true → C i) ∧
  (∀ k, rb_b S k = true → ∀ m, rb_b (N k) m = true → rb_b S m = true)
/-- the cache: each place is empty or holds the group's sources with bit 18 -/
def rt_ca (N a9 : Nat → Int32) : Prop := ∀ j, j < 18 → a9 j = 0 ∨ ∃ S, rt_src N j S ∧ a9 j = S ||| 262144
/-- the walk: seen x, the stack's w places a -/
def rt_I (N : Nat → Int32) (g : Nat) (x : Int32) (w : Nat) (a : Nat → Int32) : Prop :=
  rb_b x g = true ∧ (∀ k, rb_b x k = true → k < 18) ∧ w + rb_un x ≤ 18 ∧
  (∀ i, i < w → ∃ k, k < 18 ∧ rb_b x k = true ∧ a i = nI k) ∧
  (∀ C : Nat → Prop, C g → (∀ i, C i → ∀ k, rb_b (N i) k = true → C k) → ∀ i, rb_b x i = true → C i) ∧
  (∀ k, rb_b x k = true → (∃ i, i < w ∧ a i = nI k) ∨ (∀ m, rb_b (N k) m = true → rb_b x m = true))
theorem rt_src_18 {N : Nat → Int32} {g : Nat} {S : Int32} (h : rt_src N g S) : rb_b S 18 = false := by
  apply rb_nt
  intro z
  exact absurd (h.2.1 18 z) (by omega)
theorem rt_src_or {N : Nat → Int32} {g : Nat} {S : Int32} (h : rt_src N g S) : (S ||| 262144) &&& 262143 = S := by
  apply rb_ext
  intro i hi
  rw [rb_and, rb_or, rb_t18, rb_m18]
  by_cases z : i < 18
  · rw [decide_eq_true z, decide_eq_false (by omega), Bool.or_false, Bool.and_true]
  · rw [decide_eq_false z, Bool.and_false]
    exact (rb_nt (fun y => z (h.2.1 i y))).symm
theorem rt_src_t (S : Int32) : rb_b (S ||| 262144) 18 = true := by
  rw [rb_or, rb_t18]
  exact Bool.or_true _
theorem rt_src_un {N : Nat → Int32} {g : Nat} {S T : Int32} (h : rt_src N g S) (k : rt_src N g T) : S = T := by
  apply rb_ext
  intro i _
  have a := h.2.2.1 (fun i => rb_b T i = true) k.1 (fun i hi m hm => k.2.2.2 i hi m hm) i
  have b := k.2.2.1 (fun i => rb_b S i = true) h.1 (fun i hi m hm => h.2.2.2 i hi m hm) i
  cases e : rb_b S i
  · cases e' : rb_b T i
    · rfl
    · rw [b e'] at e; exact e.symm
  · exact (a e).symm
theorem rt_ca_put {N a9 : Nat → Int32} {g : Nat} {S : Int32} (h : rt_ca N a9) (k : rt_src N g S) : rt_ca N (upd a9 g (S ||| 262144)) := by
  intro j hj
  by_cases e : j = g
  · subst e
    exact Or.inr ⟨S, k, pk_us⟩
  · rw [pk_un e]
    exact h j hj
theorem rt_I_0 (N : Nat → Int32) (a : Nat → Int32) {g : Nat} (hg : g < 18) : rt_I N g (rb_one g) 1 (upd a 0 (nI g)) := by
  have hb : ∀ k, rb_b (rb_one g) k = true → k = g := by
    intro k hk
    rw [rb_oneB (by omega)] at hk
    exact of_decide_eq_true hk
  have ht : rb_b (rb_one g) g = true := by rw [rb_oneB (by omega)]; exact decide_eq_true rfl
  refine ⟨ht, fun k hk => by rw [hb k hk]; exact hg, ?_, fun i hi => ⟨g, hg, ht, ?_⟩, fun C hC _ i hi => by rw [hb i hi]; exact hC, fun k hk => Or.inl ⟨0, by omega, by rw [hb k hk, pk_us]⟩⟩
  · have h1 : rb_cnt (fun _ => true) 18 = rb_un (rb_one g) + rb_cnt (fun i => decide (i = g)) 18 := by
      refine rb_cnt_split 18 (fun i hi => ?_)
      show _ = (!rb_b (rb_one g) i).toNat + _
      rw [rb_oneB (by omega)]
      cases decide (i = g) <;> rfl
    rw [rb_cnt_true, rb_cnt_at, if_pos hg] at h1
    omega
  · rw [show i = 0 by omega, pk_us]
/-- a place whose sources are known is taken off -/
theorem rt_I_kn {N : Nat → Int32} {g w q : Nat} {x S : Int32} {a : Nat → Int32} (h : rt_I N g x (w + 1) a) (hq : a w = nI q) (hq18 : q < 18) (hS : rt_src N q S) (hx : rb_b x q = true) :
    rt_I N g (x ||| S) w a ∧ w + rb_un (x ||| S) < w + 1 + rb_un x := by
  obtain ⟨h1, h2, h3, h4, h5, h6⟩ := h
  have hle : rb_un (x ||| S) ≤ rb_un x := by
    refine rb_cnt_le 18 (fun i _ hi => ?_)
    rw [rb_or] at hi
    revert hi
    cases rb_b x i <;> cases rb_b S i <;> decide
  have hor : ∀ k, rb_b x k = true → rb_b (x ||| S) k = true := fun k hk => by rw [rb_or, hk]; rfl
  have hos : ∀ k, rb_b S k = true → rb_b (x ||| S) k = true := fun k hk => by rw [rb_or, hk]; exact Bool.or_true _
  have hcs : ∀ k, rb_b (x ||| S) k = true → rb_b S k = true ∨ rb_b x k = true := by
    intro k hk
    rw [rb_or] at hk
    rcases Bool.or_eq_true_iff.mp hk with z | z
    · exact Or.inr z
    · exact Or.inl z
  refine ⟨⟨hor g h1, fun k hk => ?_, by omega, fun i hi => ?_, fun C hC hcl i hi => ?_, fun k hk => ?_⟩, by omega⟩
  · rcases hcs k hk with z | z
    · exact hS.2.1 k z
    · exact h2 k z
  · obtain ⟨k, k1, k2, k3⟩ := h4 i (by omega)
    exact ⟨k, k1, hor k k2, k3⟩
  · rcases hcs i hi with z | z
    · exact hS.2.2.1 C (h5 C hC hcl q hx) hcl i z
    · exact h5 C hC hcl i z
  · rcases hcs k hk with z | z
    · exact Or.inr (fun m hm => hos m (hS.2.2.2 k z m hm))
    · rcases h6 k z with ⟨i, i1, i2⟩ | y
      · by_cases e : i = w
        · subst e
          rw [hq] at i2
          have hk18 := h2 k z
          have ek : q = k := (nI_eq (by omega) (by omega)).mp i2
          subst ek
          exact Or.inr (fun m hm => hos m (hS.2.2.2 q hS.1 m hm))
        · exact Or.inl ⟨i, by omega, i2⟩
      · exact Or.inr (fun m hm => hor m (y m hm))
/-- a place is taken off and its fresh neighbours are put on -/
theorem rt_I_fr {N : Nat → Int32} {g w q : Nat} {x : Int32} {a a' : Nat → Int32} (hN : ∀ j k, rb_b (N j) k = true → k < 18) (h : rt_I N g x (w + 1) a) (hq : a w = nI q) (hq18 : q < 18) (hx : rb_b x q = true) (F : Int32) (hF : F = N q &&& (x ^^^ (-1)))
    (k1 : ∀ i, i < w → a' i = a i) (k2 : ∀ k, k < 18 → rb_b F k = true → ∃ i, i < w + rb_cnt (rb_b F) 18 ∧ a' i = nI k) (k3 : ∀ i, w ≤ i → i < w + rb_cnt (rb_b F) 18 → ∃ k, k < 18 ∧ rb_b F k = true ∧ a' i = nI k) :
    rt_I N g (x ||| F) (w + rb_cnt (rb_b F) 18) a' ∧ w + rb_cnt (rb_b F) 18 + rb_un (x ||| F) < w + 1 + rb_un x := by
  obtain ⟨h1, h2, h3, h4, h5, h6⟩ := h
  have hf : ∀ k, k < 32 → rb_b F k = (rb_b (N q) k && !rb_b x k) := fun k hk => by rw [hF, rb_and, rb_not x hk]
  have hfN : ∀ k, rb_b F k = true → rb_b (N q) k = true := by
    intro k hk
    rw [hF, rb_and] at hk
    exact (Bool.and_eq_true_iff.mp hk).1
  have hun : rb_un x = rb_cnt (rb_b F) 18 + rb_un (x ||| F) := by
    refine rb_cnt_split 18 (fun i hi => ?_)
    show (!rb_b x i).toNat = (rb_b F i).toNat + (!rb_b (x ||| F) i).toNat
    rw [rb_or, hf i (by omega)]
    cases rb_b x i <;> cases rb_b (N q) i <;> rfl
  have hor : ∀ k, rb_b x k = true → rb_b (x ||| F) k = true := fun k hk => by rw [rb_or, hk]; rfl
  have hcs : ∀ k, rb_b (x ||| F) k = true → rb_b F k = true ∨ rb_b x k = true := by
    intro k hk
    rw [rb_or] at hk
    rcases Bool.or_eq_true_iff.mp hk with z | z
    · exact Or.inr z
    · exact Or.inl z
  have hNq : ∀ k, rb_b (N q) k = true → rb_b (x ||| F) k = true := by
    intro k hk
    rw [rb_or, hf k (by have := hN q k hk; omega), hk]
    cases rb_b x k <;> rfl
  refine ⟨⟨hor g h1, fun k hk => ?_, by omega, fun i hi => ?_, fun C hC hcl i hi => ?_, fun k hk => ?_⟩, by omega⟩
  · rcases hcs k hk with z | z
    · exact hN q k (hfN k z)
    · exact h2 k z
  · rcases Nat.lt_or_ge i w with z | z
    · obtain ⟨k, y1, y2, y3⟩ := h4 i (by omega)
      exact ⟨k, y1, hor k y2, by rw [k1 i z]; exact y3⟩
    · obtain ⟨k, y1, y2, y3⟩ := k3 i z hi
      exact ⟨k, y1, by rw [rb_or, y2]; exact Bool.or_true _, y3⟩
  · rcases hcs i hi with z | z
    · exact hcl q (h5 C hC hcl q hx) i (hfN i z)
    · exact h5 C hC hcl i z
  · rcases hcs k hk with z | z
    · exact Or.inl (k2 k (hN q k (hfN k z)) z)
    · rcases h6 k z with ⟨i, i1, i2⟩ | y
      · by_cases e : i = w
        · subst e
          rw [hq] at i2
          have hk18 := h2 k z
          have ek : q = k := (nI_eq (by omega) (by omega)).mp i2
          subst ek
          exact Or.inr hNq
        · exact Or.inl ⟨i, by omega, by rw [k1 i (by omega)]; exact i2⟩
      · exact Or.inr (fun m hm => hor m (y m hm))
/-- the walk's end -/
theorem rt_I_end {N : Nat → Int32} {g : Nat} {x : Int32} {a : Nat → Int32} (h : rt_I N g x 0 a) : rt_src N g x := by
  obtain ⟨h1, h2, h3, h4, h5, h6⟩ := h
  refine ⟨h1, h2, h5, fun k hk => ?_⟩
  rcases h6 k hk with ⟨i, i1, _⟩ | y
  · exact absurd i1 (by omega)
  · exact y
/-- what the push loop has done up to h -/
def rt_P (F : Int32) (w : Nat) (a : Nat → Int32) (h : Nat) (s : Nat → Int32) : Prop :=
  (∀ i, i < w → s i = a i) ∧ (∀ k, k < h → rb_b F k = true → ∃ i, i < w + rb_cnt (rb_b F) h ∧ s i = nI k) ∧
  (∀ i, w ≤ i → i < w + rb_cnt (rb_b F) h → ∃ k, k < h ∧ rb_b F k = true ∧ s i = nI k)
theorem rt_P_no {F : Int32} {w h : Nat} {a s : Nat → Int32} (p : rt_P F w a h s) (hb : rb_b F h = false) : rb_cnt (rb_b F) (h + 1) = rb_cnt (rb_b F) h ∧ rt_P F w a (h + 1) s := by
  have e : rb_cnt (rb_b F) (h + 1) = rb_cnt (rb_b F) h := by
    show rb_cnt (rb_b F) h + (rb_b F h).toNat = _
    rw [hb]; rfl
  refine ⟨e, p.1, fun k hk hkb => ?_, fun i hi hi2 => ?_⟩
  · rw [e]
    by_cases z : k = h
    · rw [z, hb] at hkb; exact absurd hkb (by decide)
    · exact p.2.1 k (by omega) hkb
  · rw [e] at hi2
    obtain ⟨k, y1, y2, y3⟩ := p.2.2 i hi hi2
    exact ⟨k, by omega, y2, y3⟩
theorem rt_P_yes {F : Int32} {w h : Nat} {a s : Nat → Int32} (p : rt_P F w a h s) (hb : rb_b F h = true) : rb_cnt (rb_b F) (h + 1) = rb_cnt (rb_b F) h + 1 ∧ rt_P F w a (h + 1) (upd s (w + rb_cnt (rb_b F) h) (nI h)) := by
  have e : rb_cnt (rb_b F) (h + 1) = rb_cnt (rb_b F) h + 1 := by
    show rb_cnt (rb_b F) h + (rb_b F h).toNat = _
    rw [hb]; rfl
  refine ⟨e, fun i hi => ?_, fun k hk hkb => ?_, fun i hi hi2 => ?_⟩
  · rw [pk_un (by omega)]; exact p.1 i hi
  · rw [e]
    by_cases z : k = h
    · exact ⟨w + rb_cnt (rb_b F) h, by omega, by rw [pk_us, z]⟩
    · obtain ⟨i, y1, y2⟩ := p.2.1 k (by omega) hkb
      exact ⟨i, by omega, by rw [pk_un (by omega)]; exact y2⟩
  · rw [e] at hi2
    by_cases z : i = w + rb_cnt (rb_b F) h
    · exact ⟨h, by omega, hb, by rw [z, pk_us]⟩
    · obtain ⟨k, y1, y2, y3⟩ := p.2.2 i hi (by omega)
      exact ⟨k, by omega, y2, by rw [pk_un z]; exact y3⟩
theorem rt_0shl : ∀ k, k < 18 → (0 : Int32) <<< (((nI k / 3) * 3) &&& 31) = 0 := by decide +kernel
theorem rt_t18 (x : Int32) : (x >>> ((18 : Int32) &&& 31)) &&& 1 = 0 ↔ rb_b x 18 = false := rb_tst x (n := 18) (by omega)
/-- what membersOf gathers -/
def rt_mem (E : Nat → Int32) (S : Int32) : Nat → Int32
  | 0 => 0
  | g + 1 => if rb_b S g = true then rt_mem E S g ||| E g else rt_mem E S g
theorem rt_rules {post : Int32 → Prop} {ld lt w : Int32} {a1 a2 a3 a4 a5 a6 a7 a8 a9 a10 a11 : Nat → Int32} (h3 : a3 = fun _ => 0) {k : Nat} (hk : k < 18) (H : post 0) : wpX_byRules post (ld, lt, w, a1, a2, a3, a4, a5, a6, a7, a8, a9, a10, a11) (nI k) := by
  subst h3
  refine ⟨by decide, pk_in (k % 3) 3 (by omega) (pk_rem (d := 3) (by omega) (by omega) (by omega)), by decide, ?_⟩
  exact ek_v (P := post) (rt_0shl k hk) H
theorem rt_123 {post : Int32 → St2 → Prop} {J : Int32 → Int32 → (Nat → Int32) → (Nat → Int32) → (Nat → Int32) → (Nat → Int32) → (Nat → Int32) → (Nat → Int32) → (Nat → Int32) → (Nat → Int32) → (Nat → Int32) → (Nat → Int32) → (Nat → Int32) → Prop} {x1 x2 F ld lt : Int32} {a1 a2 a3 a4 a5 a6 a7 a8 a9 a10 a11 : Nat → Int32} {w : Nat}
    (hw : w + rb_cnt (rb_b F) 18 ≤ 18) (H : ∀ s, rt_P F w a10 18 s → J x2 (nI (w + rb_cnt (rb_b F) 18)) a1 a2 a3 a4 a5 a6 a7 a8 a9 s a11) :
    ∃ n, wX_sourcesTo_123 post J x1 x2 F ld lt n 0 (nI w) a1 a2 a3 a4 a5 a6 a7 a8 a9 a10 a11 :=
  pk_loop (fun n h s => wX_sourcesTo_123 post J x1 x2 F ld lt n (nI h) (nI (w + rb_cnt (rb_b F) h)) a1 a2 a3 a4 a5 a6 a7 a8 a9 s a11) (fun h s => rt_P F w a10 h s) 18 0 a10 (by omega)
    ⟨fun _ _ => rfl, fun k hk => absurd hk (by omega), fun i hi hi2 => absurd hi2 (by show ¬ i < w + 0; omega)⟩
    (fun n s p => pk_le 18 18 (fun _ => H s p) (fun z => absurd z (by omega)))
    (fun n h s hh p hW => pk_le 18 h (fun z => absurd z (by omega)) (fun _ => ek_if (rb_tst F (n := h) (by omega))
      (fun hb => nm_r (nI_1 h) (by
        have t := hW s (rt_P_no p hb).2
        rw [(rt_P_no p hb).1] at t
        exact t))
      (fun hb => by
        have hy := rt_P_yes p (rb_nf hb)
        have hc : rb_cnt (rb_b F) (h + 1) ≤ rb_cnt (rb_b F) 18 := rb_cnt_pre _ (by omega)
        have t := hW _ hy.2
        rw [hy.1] at t
        rw [hy.1] at hc
        refine ⟨pk_in (w + rb_cnt (rb_b F) h) 18 (by omega), nm_r (by rw [nI_clamp (by omega), rb_byte h (by omega)]) (nm_r (nI_1 _) (nm_r (nI_1 h) ?_))⟩
        exact t)))
theorem rt_41 {post : Int32 → St2 → Prop} {g : Nat} (hg : g < 18) {ld lt : Int32} {a1 a2 a3 a4 a5 a6 a7 a8 a9 a11 : Nat → Int32} (h3 : a3 = fun _ => 0) (hN : ∀ j k, rb_b (a2 j) k = true → k < 18) (hc : rt_ca a2 a9)
    (H : ∀ S a10, rt_src a2 g S → post S (ld, lt, nI 0, a1, a2, a3, a4, a5, a6, a7, a8, upd a9 g (S ||| 262144), a10, a11)) (x : Int32) (w : Nat) (a10 : Nat → Int32) (hI : rt_I a2 g x w a10) :
    ∃ n, wX_sourcesTo_41 post (nI g) ld lt n x (nI w) a1 a2 a3 a4 a5 a6 a7 a8 a9 a10 a11 := by
  refine loop_m (σ := Int32 × Nat × (Nat → Int32)) (fun n s => wX_sourcesTo_41 post (nI g) ld lt n s.1 (nI s.2.1) a1 a2 a3 a4 a5 a6 a7 a8 a9 (s.2.2) a11) (fun s => rt_I a2 g s.1 s.2.1 s.2.2) (fun s => s.2.1 + rb_un s.1) ?_ (x, w, a10) hI
  rintro n ⟨x, w, a10⟩ hI hW
  have hW' : ∀ x' w' a', rt_I a2 g x' w' a' → w' + rb_un x' < w + rb_un x → wX_sourcesTo_41 post (nI g) ld lt n x' (nI w') a1 a2 a3 a4 a5 a6 a7 a8 a9 a' a11 := fun x' w' a' h1 h2 => hW (x', w', a') h1 h2
  clear hW
  show wX_sourcesTo_41 post (nI g) ld lt (n + 1) x (nI w) a1 a2 a3 a4 a5 a6 a7 a8 a9 a10 a11
  have hI0 : rt_I a2 g x w a10 := hI
  clear hI
  have hw18 : w ≤ 18 := by
    have := hI0.2.2.1
    omega
  cases w with
  | zero =>
    refine pk_le 0 0 (fun _ => ⟨pk_in g 18 hg, nm_r (by rw [nI_clamp (by omega)]) ?_⟩) (fun z => absurd z (by omega))
    exact H x a10 (rt_I_end hI0)
  | succ w =>
    obtain ⟨q, q1, q2, q3⟩ := hI0.2.2.2.1 w (by omega)
    refine pk_le (w + 1) 0 (fun z => absurd z (by omega)) (fun _ => nm_r (nI_pred w) ⟨pk_in w 18 (by omega), nm_r (e' := nI q) (by rw [nI_clamp (by omega)]; exact q3) ⟨pk_in q 18 q1, nm_r (e' := a9 q) (by rw [nI_clamp (by omega)]) ?_⟩⟩)
    refine ek_if (rt_t18 (a9 q)) (fun hb => ⟨pk_in q 18 q1, rt_rules h3 q1 ?_⟩) (fun hb => ?_)
    · refine nm_r (by rw [nI_clamp (by omega), rb_or0]) (nm_e ?_)
      have hcnt : w + rb_cnt (rb_b (a2 q &&& (x ^^^ (-1)))) 18 ≤ 18 := by
        have h1 : rb_cnt (rb_b (a2 q &&& (x ^^^ (-1)))) 18 ≤ rb_un x := rb_cnt_le 18 (fun i hi hb => by
          rw [rb_and, rb_not x (by omega)] at hb
          exact (Bool.and_eq_true_iff.mp hb).2)
        have h2 := hI0.2.2.1
        omega
      refine rt_123 hcnt (fun s p => ?_)
      have hf := rt_I_fr hN hI0 q3 q1 q2 _ rfl p.1 p.2.1 p.2.2
      exact hW' _ _ _ hf.1 hf.2
    · rcases hc q q1 with z | ⟨S, S1, S2⟩
      · exact absurd (by rw [z]; exact rb_0 18) hb
      · refine nm_r (by rw [S2, rt_src_or S1]) ?_
        have hk := rt_I_kn hI0 q3 q1 S1 q2
        exact hW' _ _ _ hk.1 hk.2
theorem rt_srcTo {post : Int32 → St2 → Prop} {g : Nat} (hg : g < 18) {ld lt w : Int32} {a1 a2 a3 a4 a5 a6 a7 a8 a9 a10 a11 : Nat → Int32} (h3 : a3 = fun _ => 0) (hN : ∀ j k, rb_b (a2 j) k = true → k < 18) (hc : rt_ca a2 a9)
    (H : ∀ S w a9 a10, rt_src a2 g S → rt_ca a2 a9 → post S (ld, lt, w, a1, a2, a3, a4, a5, a6, a7, a8, a9, a10, a11)) : wpX_sourcesTo post (ld, lt, w, a1, a2, a3, a4, a5, a6, a7, a8, a9, a10, a11) (nI g) := by
  unfold wpX_sourcesTo
  refine ⟨pk_in g 18 hg, ?_⟩
  rw [nI_clamp (show g < 2 ^ 31 by omega)]
  refine ek_if (rt_t18 (a9 g)) (fun hb => nm_e (nm_r (by rw [rb_byte g (by omega)]) ?_)) (fun hb => ⟨pk_in g 18 hg, ?_⟩)
  · exact rt_41 hg h3 hN hc (fun S a10 hS => H S _ _ _ hS (rt_ca_put hc hS)) (rb_one g) 1 _ (rt_I_0 a2 a10 hg)
  · rcases hc g hg with z | ⟨S, S1, S2⟩
    · exact absurd (by rw [z]; exact rb_0 18) hb
    · rw [S2, rt_src_or S1]
      exact H S _ _ _ S1 hc
theorem rt_mem11 {post : Int32 → St2 → Prop} {ld lt w : Int32} {a1 a2 a3 a4 a5 a6 a7 a8 a9 a10 a11 : Nat → Int32} {S : Int32} (H : post (rt_mem a1 S 18) (ld, lt, w, a1, a2, a3, a4, a5, a6, a7, a8, a9, a10, a11)) : ∃ n, wX_membersOf_11 post S ld lt w a1 a2 a3 a4 a5 a6 a7 a8 a9 a10 a11 n 0 0 :=
  pk_loop (σ := Unit) (fun n i _ => wX_membersOf_11 post S ld lt w a1 a2 a3 a4 a5 a6 a7 a8 a9 a10 a11 n (rt_mem a1 S i) (nI i)) (fun _ _ => True) 18 0 () (by omega) trivial
    (fun n _ _ => pk_le 18 18 (fun _ => H) (fun z => absurd z (by omega)))
    (fun n i _ hi _ hW => pk_le 18 i (fun z => absurd z (by omega)) (fun _ => ek_if (rb_tst S (n := i) (by omega))
      (fun hb => nm_r (nI_1 i) (by
        have t := hW () trivial
        have e : rt_mem a1 S (i + 1) = rt_mem a1 S i := if_neg (by rw [hb]; decide)
        rw [e] at t
        exact t))
      (fun hb => ⟨pk_in i 18 hi, nm_r (by rw [nI_clamp (by omega)]) (nm_r (nI_1 i) (by
        have t := hW () trivial
        have e : rt_mem a1 S (i + 1) = rt_mem a1 S i ||| a1 i := if_pos (rb_nf hb)
        rw [e] at t
        exact t))⟩)))
theorem rt_membersOf {post : Int32 → St2 → Prop} {g : Nat} (hg : g < 18) {ld lt w : Int32} {a1 a2 a3 a4 a5 a6 a7 a8 a9 a10 a11 : Nat → Int32} (h3 : a3 = fun _ => 0) (hN : ∀ j k, rb_b (a2 j) k = true → k < 18) (hc : rt_ca a2 a9)
    (H : ∀ S w a9 a10, rt_src a2 g S → rt_ca a2 a9 → post (rt_mem a1 S 18) (ld, lt, w, a1, a2, a3, a4, a5, a6, a7, a8, a9, a10, a11)) : wpX_membersOf post (ld, lt, w, a1, a2, a3, a4, a5, a6, a7, a8, a9, a10, a11) (nI g) := by
  unfold wpX_membersOf
  refine rt_srcTo hg h3 hN hc (fun S w a9 a10 hS hc' => ?_)
  exact rt_mem11 (H S w a9 a10 hS hc')
theorem rt_123_2 {post : Int32 → St2 → Prop} {J : Int32 → Int32 → (Nat → Int32) → (Nat → Int32) → (Nat → Int32) → (Nat → Int32) → (Nat → Int32) → (Nat → Int32) → (Nat → Int32) → (Nat → Int32) → (Nat → Int32) → (Nat → Int32) → (Nat → Int32) → Prop} {x1 x2 F ld lt : Int32} {a1 a2 a3 a4 a5 a6 a7 a8 a9 a10 a11 : Nat → Int32} {w : Nat}
    (hw : w + rb_cnt (rb_b F) 18 ≤ 18) (H : ∀ s, rt_P F w a10 18 s → J x2 (nI (w + rb_cnt (rb_b F) 18)) a1 a2 a3 a4 a5 a6 a7 a8 a9 s a11) :
    ∃ n, wX_sourcesTo_2_123 post J x1 x2 F ld lt n 0 (nI w) a1 a2 a3 a4 a5 a6 a7 a8 a9 a10 a11 :=
  pk_loop (fun n h s => wX_sourcesTo_2_123 post J x1 x2 F ld lt n (nI h) (nI (w + rb_cnt (rb_b F) h)) a1 a2 a3 a4 a5 a6 a7 a8 a9 s a11) (fun h s => rt_P F w a10 h s) 18 0 a10 (by omega)
    ⟨fun _ _ => rfl, fun k hk => absurd hk (by omega), fun i hi hi2 => absurd hi2 (by show ¬ i < w + 0; omega)⟩
    (fun n s p => pk_le 18 18 (fun _ => H s p) (fun z => absurd z (by omega)))
    (fun n h s hh p hW => pk_le 18 h (fun z => absurd z (by omega)) (fun _ => ek_if (rb_tst F (n := h) (by omega))
      (fun hb => nm_r (nI_1 h) (by
        have t := hW s (rt_P_no p hb).2
        rw [(rt_P_no p hb).1] at t
        exact t))
      (fun hb => by
        have hy := rt_P_yes p (rb_nf hb)
        have hc : rb_cnt (rb_b F) (h + 1) ≤ rb_cnt (rb_b F) 18 := rb_cnt_pre _ (by omega)
        have t := hW _ hy.2
        rw [hy.1] at t
        rw [hy.1] at hc
        refine ⟨pk_in (w + rb_cnt (rb_b F) h) 18 (by omega), nm_r (by rw [nI_clamp (by omega), rb_byte h (by omega)]) (nm_r (nI_1 _) (nm_r (nI_1 h) ?_))⟩
        exact t)))
theorem rt_41_2 {post : Int32 → St2 → Prop} {g : Nat} (hg : g < 18) {ld lt : Int32} {a1 a2 a3 a4 a5 a6 a7 a8 a9 a11 : Nat → Int32} (h3 : a3 = fun _ => 0) (hN : ∀ j k, rb_b (a2 j) k = true → k < 18) (hc : rt_ca a2 a9)
    (H : ∀ S a10, rt_src a2 g S → post S (ld, lt, nI 0, a1, a2, a3, a4, a5, a6, a7, a8, upd a9 g (S ||| 262144), a10, a11)) (x : Int32) (w : Nat) (a10 : Nat → Int32) (hI : rt_I a2 g x w a10) :
    ∃ n, wX_sourcesTo_2_41 post (nI g) ld lt n x (nI w) a1 a2 a3 a4 a5 a6 a7 a8 a9 a10 a11 := by
  refine loop_m (σ := Int32 × Nat × (Nat → Int32)) (fun n s => wX_sourcesTo_2_41 post (nI g) ld lt n s.1 (nI s.2.1) a1 a2 a3 a4 a5 a6 a7 a8 a9 (s.2.2) a11) (fun s => rt_I a2 g s.1 s.2.1 s.2.2) (fun s => s.2.1 + rb_un s.1) ?_ (x, w, a10) hI
  rintro n ⟨x, w, a10⟩ hI hW
  have hW' : ∀ x' w' a', rt_I a2 g x' w' a' → w' + rb_un x' < w + rb_un x → wX_sourcesTo_2_41 post (nI g) ld lt n x' (nI w') a1 a2 a3 a4 a5 a6 a7 a8 a9 a' a11 := fun x' w' a' h1 h2 => hW (x', w', a') h1 h2
  clear hW
  show wX_sourcesTo_2_41 post (nI g) ld lt (n + 1) x (nI w) a1 a2 a3 a4 a5 a6 a7 a8 a9 a10 a11
  have hI0 : rt_I a2 g x w a10 := hI
  clear hI
  have hw18 : w ≤ 18 := by
    have := hI0.2.2.1
    omega
  cases w with
  | zero =>
    refine pk_le 0 0 (fun _ => ⟨pk_in g 18 hg, nm_r (by rw [nI_clamp (by omega)]) ?_⟩) (fun z => absurd z (by omega))
    exact H x a10 (rt_I_end hI0)
  | succ w =>
    obtain ⟨q, q1, q2, q3⟩ := hI0.2.2.2.1 w (by omega)
    refine pk_le (w + 1) 0 (fun z => absurd z (by omega)) (fun _ => nm_r (nI_pred w) ⟨pk_in w 18 (by omega), nm_r (e' := nI q) (by rw [nI_clamp (by omega)]; exact q3) ⟨pk_in q 18 q1, nm_r (e' := a9 q) (by rw [nI_clamp (by omega)]) ?_⟩⟩)
    refine ek_if (rt_t18 (a9 q)) (fun hb => ⟨pk_in q 18 q1, rt_rules h3 q1 ?_⟩) (fun hb => ?_)
    · refine nm_r (by rw [nI_clamp (by omega), rb_or0]) (nm_e ?_)
      have hcnt : w + rb_cnt (rb_b (a2 q &&& (x ^^^ (-1)))) 18 ≤ 18 := by
        have h1 : rb_cnt (rb_b (a2 q &&& (x ^^^ (-1)))) 18 ≤ rb_un x := rb_cnt_le 18 (fun i hi hb => by
          rw [rb_and, rb_not x (by omega)] at hb
          exact (Bool.and_eq_true_iff.mp hb).2)
        have h2 := hI0.2.2.1
        omega
      refine rt_123_2 hcnt (fun s p => ?_)
      have hf := rt_I_fr hN hI0 q3 q1 q2 _ rfl p.1 p.2.1 p.2.2
      exact hW' _ _ _ hf.1 hf.2
    · rcases hc q q1 with z | ⟨S, S1, S2⟩
      · exact absurd (by rw [z]; exact rb_0 18) hb
      · refine nm_r (by rw [S2, rt_src_or S1]) ?_
        have hk := rt_I_kn hI0 q3 q1 S1 q2
        exact hW' _ _ _ hk.1 hk.2
theorem rt_srcTo_2 {post : Int32 → St2 → Prop} {g : Nat} (hg : g < 18) {ld lt w : Int32} {a1 a2 a3 a4 a5 a6 a7 a8 a9 a10 a11 : Nat → Int32} (h3 : a3 = fun _ => 0) (hN : ∀ j k, rb_b (a2 j) k = true → k < 18) (hc : rt_ca a2 a9)
    (H : ∀ S w a9 a10, rt_src a2 g S → rt_ca a2 a9 → post S (ld, lt, w, a1, a2, a3, a4, a5, a6, a7, a8, a9, a10, a11)) : wpX_sourcesTo_2 post (ld, lt, w, a1, a2, a3, a4, a5, a6, a7, a8, a9, a10, a11) (nI g) := by
  unfold wpX_sourcesTo_2
  refine ⟨pk_in g 18 hg, ?_⟩
  rw [nI_clamp (show g < 2 ^ 31 by omega)]
  refine ek_if (rt_t18 (a9 g)) (fun hb => nm_e (nm_r (by rw [rb_byte g (by omega)]) ?_)) (fun hb => ⟨pk_in g 18 hg, ?_⟩)
  · exact rt_41_2 hg h3 hN hc (fun S a10 hS => H S _ _ _ hS (rt_ca_put hc hS)) (rb_one g) 1 _ (rt_I_0 a2 a10 hg)
  · rcases hc g hg with z | ⟨S, S1, S2⟩
    · exact absurd (by rw [z]; exact rb_0 18) hb
    · rw [S2, rt_src_or S1]
      exact H S _ _ _ S1 hc
theorem rt_mem11_2 {post : Int32 → St2 → Prop} {ld lt w : Int32} {a1 a2 a3 a4 a5 a6 a7 a8 a9 a10 a11 : Nat → Int32} {S : Int32} (H : post (rt_mem a1 S 18) (ld, lt, w, a1, a2, a3, a4, a5, a6, a7, a8, a9, a10, a11)) : ∃ n, wX_membersOf_2_11 post S ld lt w a1 a2 a3 a4 a5 a6 a7 a8 a9 a10 a11 n 0 0 :=
  pk_loop (σ := Unit) (fun n i _ => wX_membersOf_2_11 post S ld lt w a1 a2 a3 a4 a5 a6 a7 a8 a9 a10 a11 n (rt_mem a1 S i) (nI i)) (fun _ _ => True) 18 0 () (by omega) trivial
    (fun n _ _ => pk_le 18 18 (fun _ => H) (fun z => absurd z (by omega)))
    (fun n i _ hi _ hW => pk_le 18 i (fun z => absurd z (by omega)) (fun _ => ek_if (rb_tst S (n := i) (by omega))
      (fun hb => nm_r (nI_1 i) (by
        have t := hW () trivial
        have e : rt_mem a1 S (i + 1) = rt_mem a1 S i := if_neg (by rw [hb]; decide)
        rw [e] at t
        exact t))
      (fun hb => ⟨pk_in i 18 hi, nm_r (by rw [nI_clamp (by omega)]) (nm_r (nI_1 i) (by
        have t := hW () trivial
        have e : rt_mem a1 S (i + 1) = rt_mem a1 S i ||| a1 i := if_pos (rb_nf hb)
        rw [e] at t
        exact t))⟩)))
theorem rt_membersOf_2 {post : Int32 → St2 → Prop} {g : Nat} (hg : g < 18) {ld lt w : Int32} {a1 a2 a3 a4 a5 a6 a7 a8 a9 a10 a11 : Nat → Int32} (h3 : a3 = fun _ => 0) (hN : ∀ j k, rb_b (a2 j) k = true → k < 18) (hc : rt_ca a2 a9)
    (H : ∀ S w a9 a10, rt_src a2 g S → rt_ca a2 a9 → post (rt_mem a1 S 18) (ld, lt, w, a1, a2, a3, a4, a5, a6, a7, a8, a9, a10, a11)) : wpX_membersOf_2 post (ld, lt, w, a1, a2, a3, a4, a5, a6, a7, a8, a9, a10, a11) (nI g) := by
  unfold wpX_membersOf_2
  refine rt_srcTo_2 hg h3 hN hc (fun S w a9 a10 hS hc' => ?_)
  exact rt_mem11_2 (H S w a9 a10 hS hc')
end
section
/-! make, load, noteChange -/
/-- one change: bit i of place j is set (b not 0) or cleared (b = 0) -/
def rt_put (A : Nat → Int32) (i j : Nat) (b : Int32) : Nat → Int32 := upd A j (if b = 0 then A j &&& (rb_one i ^^^ (-1)) else A j ||| rb_one i)
theorem rt_put_undo (A : Nat → Int32) {i : Nat} (hi : i < 32) (j : Nat) (b : Int32) : rt_put (rt_put A i j b) i j (nI (rb_b (A j) i).toNat) = A := by
  funext k
  by_cases e : k = j
  · subst e
    unfold rt_put
    rw [pk_us, pk_us]
    apply rb_ext
    intro m hm
    by_cases z : m = i
    · subst z
      cases h : rb_b (A k) m
      · rw [if_pos (by rfl), rb_and, rb_not _ hm, rb_oneB hm, decide_eq_true rfl]
        exact Bool.and_false _
      · rw [if_neg (by decide), rb_or, rb_oneB hm, decide_eq_true rfl]
        exact Bool.or_true _
    · have hz : rb_b (rb_one i) m = false := by rw [rb_oneB hi, decide_eq_false z]
      have hz' : rb_b (rb_one i ^^^ (-1)) m = true := by rw [rb_not _ hm, hz]; rfl
      have h1 : rb_b (if b = 0 then A k &&& (rb_one i ^^^ (-1)) else A k ||| rb_one i) m = rb_b (A k) m := by
        by_cases y : b = 0
        · rw [if_pos y, rb_and, hz', Bool.and_true]
        · rw [if_neg y, rb_or, hz, Bool.or_false]
      cases rb_b (A k) i
      · rw [if_pos (by rfl), rb_and, hz', Bool.and_true, h1]
      · rw [if_neg (by decide), rb_or, hz, Bool.or_false, h1]
  · unfold rt_put
    rw [pk_un e, pk_un e]
/-- change q leads from state q - 1 to state q, and back -/
def rt_stp (E N : Nat → Nat → Int32) (so pa pl be af : Nat → Int32) (q : Nat) : Prop :=
  ∃ i j : Nat, i < 18 ∧ j < 18 ∧ pa (q + 1) = nI i ∧ pl (q + 1) = nI j ∧ (be (q + 1) = 0 ∨ be (q + 1) = 1) ∧ (af (q + 1) = 0 ∨ af (q + 1) = 1) ∧
  ((so (q + 1) = 0 ∧ N (q + 1) = N q ∧ E (q + 1) = rt_put (E q) i j (af (q + 1)) ∧ E q = rt_put (E (q + 1)) i j (be (q + 1))) ∨
   (so (q + 1) = 1 ∧ E (q + 1) = E q ∧ N (q + 1) = rt_put (N q) i j (af (q + 1)) ∧ N q = rt_put (N (q + 1)) i j (be (q + 1))))
/-- the object: state s is loaded, hi is the latest, cp what is compared -/
def rt_ok (E N : Nat → Nat → Int32) (so pa pl be af : Nat → Int32) (hi s : Nat) (cp : Nat → Int32) (u : St2) : Prop := match u with
  | (ld, lt, w, a1, a2, a3, a4, a5, a6, a7, a8, a9, a10, a11) => ld = nI s ∧ lt = nI hi ∧ a1 = E s ∧ a2 = N s ∧ a3 = (fun _ => 0) ∧
    (∀ q, 1 ≤ q → q ≤ hi → hi < q + 8 → a4 (q % 8) = so q ∧ a5 (q % 8) = pa q ∧ a6 (q % 8) = pl q ∧ a7 (q % 8) = be q ∧ a8 (q % 8) = af q) ∧
    rt_ca (N s) a9 ∧ a11 = cp
theorem rt_149 {post : St2 → Prop} {ld lt w : Int32} {a1 a2 a3 a4 a5 a6 a7 a8 a9 a10 a11 : Nat → Int32} (H : ∀ a9, (∀ k, k < 18 → a9 k = 0) → post (ld, lt, w, a1, a2, a3, a4, a5, a6, a7, a8, a9, a10, a11)) : ∃ n, wX_make_149 post ld lt w n 0 a1 a2 a3 a4 a5 a6 a7 a8 a9 a10 a11 :=
  pk_loop (fun n i s => wX_make_149 post ld lt w n (nI i) a1 a2 a3 a4 a5 a6 a7 a8 s a10 a11) (fun i s => ∀ k, k < i → s k = 0) 18 0 a9 (by omega) (fun k hk => absurd hk (by omega))
    (fun n s p => pk_le 18 18 (fun _ => H s p) (fun z => absurd z (by omega)))
    (fun n i s hi p hW => pk_le 18 i (fun z => absurd z (by omega)) (fun _ => ⟨pk_in i 18 hi, nm_r (by rw [nI_clamp (by omega)]) (nm_r (nI_1 i) (hW _ (fun k hk => by
      by_cases e : k = i
      · rw [e, pk_us]
      · rw [pk_un e]; exact p k (by omega))))⟩))
theorem rt_make0 {post : St2 → Prop} {ld lt w : Int32} {a1 a2 a3 a4 a5 a6 a7 a8 a9 a10 a11 : Nat → Int32} {q i j : Nat} {b : Int32} (hq : q < 8) (hj : j < 18) (h4 : a4 q = 0) (h5 : a5 q = nI i) (h6 : a6 q = nI j) (H : post (ld, lt, w, rt_put a1 i j b, a2, a3, a4, a5, a6, a7, a8, a9, a10, a11)) : wpX_make post (ld, lt, w, a1, a2, a3, a4, a5, a6, a7, a8, a9, a10, a11) (nI q) b := by
  have hcl : (nI q).toNatClampNeg = q := nI_clamp (by omega)
  have hcj : (nI j).toNatClampNeg = j := nI_clamp (by omega)
  refine ⟨pk_in q 8 hq, nm_r (by rw [hcl, h4]) ⟨pk_in q 8 hq, nm_r (e' := rb_one i) (by rw [hcl, h5]; rfl) ⟨pk_in q 8 hq, nm_r (by rw [hcl, h6]) ?_⟩⟩⟩
  refine br_t rfl (br_c (fun hb => ⟨pk_in j 18 hj, pk_in j 18 hj, nm_r (by rw [hcj]) ?_⟩) (fun hb => ⟨pk_in j 18 hj, pk_in j 18 hj, nm_r (by rw [hcj]) ?_⟩))
  · unfold rt_put at H
    rw [if_pos hb] at H
    exact H
  · unfold rt_put at H
    rw [if_neg hb] at H
    exact H
theorem rt_make1 {post : St2 → Prop} {ld lt w : Int32} {a1 a2 a3 a4 a5 a6 a7 a8 a9 a10 a11 : Nat → Int32} {q i j : Nat} {b : Int32} (hq : q < 8) (hj : j < 18) (h4 : a4 q = 1) (h5 : a5 q = nI i) (h6 : a6 q = nI j) (H : ∀ a9, (∀ k, k < 18 → a9 k = 0) → post (ld, lt, w, a1, rt_put a2 i j b, a3, a4, a5, a6, a7, a8, a9, a10, a11)) : wpX_make post (ld, lt, w, a1, a2, a3, a4, a5, a6, a7, a8, a9, a10, a11) (nI q) b := by
  have hcl : (nI q).toNatClampNeg = q := nI_clamp (by omega)
  have hcj : (nI j).toNatClampNeg = j := nI_clamp (by omega)
  refine ⟨pk_in q 8 hq, nm_r (by rw [hcl, h4]) ⟨pk_in q 8 hq, nm_r (e' := rb_one i) (by rw [hcl, h5]; rfl) ⟨pk_in q 8 hq, nm_r (by rw [hcl, h6]) ?_⟩⟩⟩
  refine br_f (by decide) (br_t rfl (br_c (fun hb => ⟨pk_in j 18 hj, pk_in j 18 hj, nm_r (by rw [hcj]) ?_⟩) (fun hb => ⟨pk_in j 18 hj, pk_in j 18 hj, nm_r (by rw [hcj]) ?_⟩)))
  · unfold rt_put at H
    rw [if_pos hb] at H
    exact rt_149 H
  · unfold rt_put at H
    rw [if_neg hb] at H
    exact rt_149 H
theorem rt_ca_0 {N a9 : Nat → Int32} (h : ∀ k, k < 18 → a9 k = 0) : rt_ca N a9 := fun j hj => Or.inl (h j hj)
/-- one step forth -/
theorem rt_fwd {E N : Nat → Nat → Int32} {so pa pl be af : Nat → Int32} {hi s : Nat} {cp : Nat → Int32} (hs : s + 1 ≤ hi) (hk : hi < s + 8) (st : rt_stp E N so pa pl be af s) {post : St2 → Prop} {ld lt w : Int32} {a1 a2 a3 a4 a5 a6 a7 a8 a9 a10 a11 : Nat → Int32}
    (ok : rt_ok E N so pa pl be af hi s cp (ld, lt, w, a1, a2, a3, a4, a5, a6, a7, a8, a9, a10, a11)) (H : ∀ u, rt_ok E N so pa pl be af hi (s + 1) cp u → post u) : wpX_make post (nI (s + 1), lt, w, a1, a2, a3, a4, a5, a6, a7, a8, a9, a10, a11) (nI ((s + 1) % 8)) (af (s + 1)) := by
  obtain ⟨k1, k2, k3, k4, k5, k6, k7, k8⟩ := ok
  obtain ⟨r4, r5, r6, r7, r8⟩ := k6 (s + 1) (by omega) hs (by omega)
  obtain ⟨i, j, hi', hj, e1, e2, _, _, ⟨e3, e4, e5, e6⟩ | ⟨e3, e4, e5, e6⟩⟩ := st
  · refine rt_make0 (i := i) (j := j) (by omega) hj (by rw [r4, e3]) (by rw [r5, e1]) (by rw [r6, e2]) (H _ ⟨rfl, k2, ?_, ?_, k5, k6, ?_, k8⟩)
    · rw [k3, e5]
    · rw [k4, e4]
    · rw [e4]; exact k7
  · refine rt_make1 (i := i) (j := j) (by omega) hj (by rw [r4, e3]) (by rw [r5, e1]) (by rw [r6, e2]) (fun a9 h9 => H _ ⟨rfl, k2, ?_, ?_, k5, k6, rt_ca_0 h9, k8⟩)
    · rw [k3, e4]
    · rw [k4, e5]
/-- one step back: the state but for the counter -/
theorem rt_bwd {E N : Nat → Nat → Int32} {so pa pl be af : Nat → Int32} {hi s : Nat} {cp : Nat → Int32} (hs : s + 1 ≤ hi) (hk : hi < s + 8) (st : rt_stp E N so pa pl be af s) {post : St2 → Prop} {ld lt w : Int32} {a1 a2 a3 a4 a5 a6 a7 a8 a9 a10 a11 : Nat → Int32}
    (ok : rt_ok E N so pa pl be af hi (s + 1) cp (ld, lt, w, a1, a2, a3, a4, a5, a6, a7, a8, a9, a10, a11)) (H : ∀ ld lt w a1 a2 a3 a4 a5 a6 a7 a8 a9 a10 a11, ld = nI (s + 1) → rt_ok E N so pa pl be af hi s cp (nI s, lt, w, a1, a2, a3, a4, a5, a6, a7, a8, a9, a10, a11) → post (ld, lt, w, a1, a2, a3, a4, a5, a6, a7, a8, a9, a10, a11)) : wpX_make post (ld, lt, w, a1, a2, a3, a4, a5, a6, a7, a8, a9, a10, a11) (nI ((s + 1) % 8)) (be (s + 1)) := by
  obtain ⟨k1, k2, k3, k4, k5, k6, k7, k8⟩ := ok
  obtain ⟨r4, r5, r6, r7, r8⟩ := k6 (s + 1) (by omega) hs (by omega)
  obtain ⟨i, j, hi', hj, e1, e2, _, _, ⟨e3, e4, e5, e6⟩ | ⟨e3, e4, e5, e6⟩⟩ := st
  · refine rt_make0 (i := i) (j := j) (by omega) hj (by rw [r4, e3]) (by rw [r5, e1]) (by rw [r6, e2]) (H _ _ _ _ _ _ _ _ _ _ _ _ _ _ k1 ⟨rfl, k2, ?_, ?_, k5, k6, ?_, k8⟩)
    · rw [k3, ← e6]
    · rw [k4, e4]
    · rw [← e4]; exact k7
  · refine rt_make1 (i := i) (j := j) (by omega) hj (by rw [r4, e3]) (by rw [r5, e1]) (by rw [r6, e2]) (fun a9 h9 => H _ _ _ _ _ _ _ _ _ _ _ _ _ _ k1 ⟨rfl, k2, ?_, ?_, k5, k6, rt_ca_0 h9, k8⟩)
    · rw [k3, e4]
    · rw [k4, ← e6]
theorem rt_rem8 {q : Nat} (h : q < 1000) : nI q - nI q / 8 * 8 = nI (q % 8) := pk_rem (d := 8) (by omega) (by omega) (by omega)
theorem rt_up {E N : Nat → Nat → Int32} {so pa pl be af : Nat → Int32} {hi s' : Nat} {cp : Nat → Int32} (hhi : hi < 900) (hs' : s' ≤ hi) (st : ∀ q, q < hi → rt_stp E N so pa pl be af q) {post : St2 → Prop} (H : ∀ u, rt_ok E N so pa pl be af hi s' cp u → post u) :
    ∀ d s, s + d = s' → hi < s + 8 → ∀ ld lt w a1 a2 a3 a4 a5 a6 a7 a8 a9 a10 a11, rt_ok E N so pa pl be af hi s cp (ld, lt, w, a1, a2, a3, a4, a5, a6, a7, a8, a9, a10, a11) → wX_load_44 post (nI s') (d + 1) ld lt w a1 a2 a3 a4 a5 a6 a7 a8 a9 a10 a11 := by
  intro d
  induction d with
  | zero =>
    intro s hs hk ld lt w a1 a2 a3 a4 a5 a6 a7 a8 a9 a10 a11 ok
    have es : s = s' := by omega
    subst es
    exact pk_le s s (fun _ => H _ ok) (fun z => absurd z (by omega)) rfl ok.1
  | succ d ih =>
    intro s hs hk ld lt w a1 a2 a3 a4 a5 a6 a7 a8 a9 a10 a11 ok
    have e1 : ld = nI s := ok.1
    subst e1
    refine pk_le s' s (fun z => absurd z (by omega)) (fun _ => nm_r (nI_1 s) ⟨by decide, by decide, ?_⟩)
    rw [rt_rem8 (by omega), nI_clamp (show (s + 1) % 8 < 2 ^ 31 by omega)]
    refine ⟨pk_in ((s + 1) % 8) 8 (by omega), ?_⟩
    have e8 : a8 ((s + 1) % 8) = af (s + 1) := (ok.2.2.2.2.2.1 (s + 1) (by omega) (by omega) (by omega)).2.2.2.2
    rw [e8]
    refine rt_fwd (by omega) (by omega) (st s (by omega)) ok (fun u hu => ?_)
    obtain ⟨ld, lt, w, a1, a2, a3, a4, a5, a6, a7, a8, a9, a10, a11⟩ := u
    exact ih (s + 1) (by omega) (by omega) _ _ _ _ _ _ _ _ _ _ _ _ _ _ hu
theorem rt_down {E N : Nat → Nat → Int32} {so pa pl be af : Nat → Int32} {hi s' : Nat} {cp : Nat → Int32} (hhi : hi < 900) (hk : hi < s' + 8) (st : ∀ q, q < hi → rt_stp E N so pa pl be af q) {post : St2 → Prop} (H : ∀ u, rt_ok E N so pa pl be af hi s' cp u → post u) :
    ∀ d s, s' + d = s → s ≤ hi → ∀ ld lt w a1 a2 a3 a4 a5 a6 a7 a8 a9 a10 a11, rt_ok E N so pa pl be af hi s cp (ld, lt, w, a1, a2, a3, a4, a5, a6, a7, a8, a9, a10, a11) → wX_load_0 post (nI s') (d + 1) ld lt w a1 a2 a3 a4 a5 a6 a7 a8 a9 a10 a11 := by
  intro d
  induction d with
  | zero =>
    intro s hs hh ld lt w a1 a2 a3 a4 a5 a6 a7 a8 a9 a10 a11 ok
    have es : s = s' := by omega
    subst es
    exact pk_le s s (fun _ => ⟨1, rt_up hhi hh st H 0 s rfl hk _ _ _ _ _ _ _ _ _ _ _ _ _ _ ok⟩) (fun z => absurd z (by omega)) ok.1 rfl
  | succ d ih =>
    intro s hs hh ld lt w a1 a2 a3 a4 a5 a6 a7 a8 a9 a10 a11 ok
    obtain ⟨s, rfl⟩ : ∃ r, s = r + 1 := ⟨s - 1, by omega⟩
    have e1 : ld = nI (s + 1) := ok.1
    subst e1
    refine pk_le (s + 1) s' (fun z => absurd z (by omega)) (fun _ => ⟨by decide, by decide, ?_⟩)
    rw [rt_rem8 (by omega), nI_clamp (show (s + 1) % 8 < 2 ^ 31 by omega)]
    refine ⟨pk_in ((s + 1) % 8) 8 (by omega), ?_⟩
    have e7 : a7 ((s + 1) % 8) = be (s + 1) := (ok.2.2.2.2.2.1 (s + 1) (by omega) (by omega) (by omega)).2.2.2.1
    rw [e7]
    refine rt_bwd (by omega) (by omega) (st s (by omega)) ok (fun ld lt w a1 a2 a3 a4 a5 a6 a7 a8 a9 a10 a11 hl hu => ?_)
    refine nm_r (e' := nI s) (by rw [hl]; exact nI_pred s) ?_
    exact ih s (by omega) (by omega) _ _ _ _ _ _ _ _ _ _ _ _ _ _ hu
theorem rt_load {E N : Nat → Nat → Int32} {so pa pl be af : Nat → Int32} {hi s s' : Nat} {cp : Nat → Int32} (hhi : hi < 900) (st : ∀ q, q < hi → rt_stp E N so pa pl be af q) (hs : s ≤ hi) (hks : hi < s + 8) (hs' : s' ≤ hi) (hks' : hi < s' + 8) {u : St2} (ok : rt_ok E N so pa pl be af hi s cp u)
    {post : St2 → Prop} (H : ∀ u, rt_ok E N so pa pl be af hi s' cp u → post u) : wpX_load post u (nI s') := by
  obtain ⟨ld, lt, w, a1, a2, a3, a4, a5, a6, a7, a8, a9, a10, a11⟩ := u
  rcases Nat.lt_or_ge s' s with z | z
  · exact ⟨s - s' + 1, rt_down hhi hks' st H (s - s') s (by omega) hs _ _ _ _ _ _ _ _ _ _ _ _ _ _ ok⟩
  · exact ⟨1, pk_le s s' (fun _ => ⟨s' - s + 1, rt_up hhi hs' st H (s' - s) s (by omega) hks _ _ _ _ _ _ _ _ _ _ _ _ _ _ ok⟩) (fun y => absurd y (by omega)) ok.1 rfl⟩
theorem rt_bool {x : Int32} (h : x = 0 ∨ x = 1) : vp_nar .boolean x = x := by
  rcases h with e | e
  · rw [e]; rfl
  · rw [e]; rfl
theorem rt_ring {r : Nat → Int32} {a : Nat → Int32} {hi : Nat} (h : ∀ q, 1 ≤ q → q ≤ hi → hi < q + 8 → a (q % 8) = r q) : ∀ q, 1 ≤ q → q ≤ hi + 1 → hi + 1 < q + 8 → upd a ((hi + 1) % 8) (r (hi + 1)) (q % 8) = r q := by
  intro q h1 h2 h3
  by_cases e : q = hi + 1
  · rw [e, pk_us]
  · rw [pk_un (by omega)]
    exact h q h1 (by omega) (by omega)
theorem rt_note {E N : Nat → Nat → Int32} {so pa pl be af : Nat → Int32} {hi : Nat} {cp : Nat → Int32} (hhi : hi < 900) (st : rt_stp E N so pa pl be af hi) {ld lt w : Int32} {a1 a2 a3 a4 a5 a6 a7 a8 a9 a10 a11 : Nat → Int32} (ok : rt_ok E N so pa pl be af hi hi cp (ld, lt, w, a1, a2, a3, a4, a5, a6, a7, a8, a9, a10, a11))
    {post : St2 → Prop} (H : ∀ u, rt_ok E N so pa pl be af (hi + 1) (hi + 1) cp u → post u) : wpX_noteChange post (ld, lt, w, a1, a2, a3, a4, a5, a6, a7, a8, a9, a10, a11) (so (hi + 1)) (pa (hi + 1)) (pl (hi + 1)) (be (hi + 1)) (af (hi + 1)) := by
  obtain ⟨k1, k2, k3, k4, k5, k6, k7, k8⟩ := ok
  have st' := st
  obtain ⟨i, j, hi', hj, e1, e2, e3, e4, e5⟩ := st'
  have hcl : (nI ((hi + 1) % 8)).toNatClampNeg = (hi + 1) % 8 := nI_clamp (by omega)
  have b0 : (so (hi + 1)).toInt8.toInt32 = so (hi + 1) := by
    rcases e5 with ⟨z, _⟩ | ⟨z, _⟩
    · rw [z]; decide
    · rw [z]; decide
  have b1 : (pa (hi + 1)).toInt8.toInt32 = pa (hi + 1) := by rw [e1]; exact rb_byte i (by omega)
  have b2 : (pl (hi + 1)).toInt8.toInt32 = pl (hi + 1) := by rw [e2]; exact rb_byte j (by omega)
  have vi : vp_in (nI ((hi + 1) % 8)) 8 := pk_in ((hi + 1) % 8) 8 (by omega)
  refine nm_r (e' := nI (hi + 1)) (by rw [k2]; exact nI_1 hi) ⟨by decide, nm_r (rt_rem8 (by omega)) ⟨vi, nm_r (by rw [hcl, b0]) ⟨vi, nm_r (by rw [hcl, b1]) ⟨vi, nm_r (by rw [hcl, b2]) ⟨vi, nm_r (by rw [hcl, rt_bool e3]) ⟨vi, nm_r (by rw [hcl, rt_bool e4]) ?_⟩⟩⟩⟩⟩⟩
  have ring : ∀ q, 1 ≤ q → q ≤ hi + 1 → hi + 1 < q + 8 → upd a4 ((hi + 1) % 8) (so (hi + 1)) (q % 8) = so q ∧ upd a5 ((hi + 1) % 8) (pa (hi + 1)) (q % 8) = pa q ∧ upd a6 ((hi + 1) % 8) (pl (hi + 1)) (q % 8) = pl q ∧ upd a7 ((hi + 1) % 8) (be (hi + 1)) (q % 8) = be q ∧ upd a8 ((hi + 1) % 8) (af (hi + 1)) (q % 8) = af q :=
    fun q h1 h2 h3 => ⟨rt_ring (fun q h1 h2 h3 => (k6 q h1 h2 h3).1) q h1 h2 h3, rt_ring (fun q h1 h2 h3 => (k6 q h1 h2 h3).2.1) q h1 h2 h3, rt_ring (fun q h1 h2 h3 => (k6 q h1 h2 h3).2.2.1) q h1 h2 h3, rt_ring (fun q h1 h2 h3 => (k6 q h1 h2 h3).2.2.2.1) q h1 h2 h3, rt_ring (fun q h1 h2 h3 => (k6 q h1 h2 h3).2.2.2.2) q h1 h2 h3⟩
  rcases e5 with ⟨z1, z2, z3, z4⟩ | ⟨z1, z2, z3, z4⟩
  · refine rt_make0 (i := i) (j := j) (by omega) hj (by rw [pk_us, z1]) (by rw [pk_us, e1]) (by rw [pk_us, e2]) (H _ ⟨rfl, rfl, ?_, ?_, k5, ring, ?_, k8⟩)
    · rw [k3, z3]
    · rw [k4, z2]
    · rw [z2]; exact k7
  · refine rt_make1 (i := i) (j := j) (by omega) hj (by rw [pk_us, z1]) (by rw [pk_us, e1]) (by rw [pk_us, e2]) (fun a9 h9 => H _ ⟨rfl, rfl, ?_, ?_, k5, ring, rt_ca_0 h9, k8⟩)
    · rw [k3, z2]
    · rw [k4, z3]
end
section
/-! the methods over any history -/
/-- the history: changes lead on, nesting is about groups, M says the members -/
def rt_his (E N M : Nat → Nat → Int32) (so pa pl be af : Nat → Int32) : Prop :=
  (∀ q, q < 22 → rt_stp E N so pa pl be af q) ∧ (∀ q, q ≤ 22 → ∀ j k, rb_b (N q j) k = true → k < 18) ∧
  (∀ q, q ≤ 22 → ∀ g, g < 18 → ∀ S, rt_src (N q) g S → rt_mem (E q) S 18 = M q g)
/-- the object, some kept state loaded -/
def rt_st (E N : Nat → Nat → Int32) (so pa pl be af : Nat → Int32) (hi : Nat) (u : St2) : Prop := ∃ s cp, s ≤ hi ∧ hi < s + 8 ∧ rt_ok E N so pa pl be af hi s cp u
theorem rt_isPerson {post : Int32 → Prop} {ld lt w : Int32} {a1 a2 a3 a4 a5 a6 a7 a8 a9 a10 a11 : Nat → Int32} {p : Nat} (hp : p < 6) (H : post 1) : wpX_isPerson post (ld, lt, w, a1, a2, a3, a4, a5, a6, a7, a8, a9, a10, a11) (nI p) :=
  br_f (nI_pos (by omega)) (pk_lt 5 p (fun z => absurd z (by omega)) (fun _ => H))
theorem rt_isGroup {post : Int32 → Prop} {ld lt w : Int32} {a1 a2 a3 a4 a5 a6 a7 a8 a9 a10 a11 : Nat → Int32} {g : Nat} (hg : g < 18) (H : post 1) : wpX_isGroup post (ld, lt, w, a1, a2, a3, a4, a5, a6, a7, a8, a9, a10, a11) (nI g) :=
  br_f (nI_pos (by omega)) (pk_le 18 g (fun z => absurd z (by omega)) (fun _ => H))
theorem rt_isState {post : Int32 → Prop} {ld lt w : Int32} {a1 a2 a3 a4 a5 a6 a7 a8 a9 a10 a11 : Nat → Int32} {hi q : Nat} (hl : lt = nI hi) (hhi : hi < 900) (hq : q ≤ hi) (H : post 1) : wpX_isState post (ld, lt, w, a1, a2, a3, a4, a5, a6, a7, a8, a9, a10, a11) (nI q) :=
  br_f (nI_pos (by omega)) (pk_lt hi q (fun z => absurd z (by omega)) (fun _ => H) hl)
theorem rt_isState_f {post : Int32 → Prop} {ld lt w : Int32} {a1 a2 a3 a4 a5 a6 a7 a8 a9 a10 a11 : Nat → Int32} {hi q : Nat} (hl : lt = nI hi) (hq9 : q < 900) (hq : hi < q) (H : post 0) : wpX_isState post (ld, lt, w, a1, a2, a3, a4, a5, a6, a7, a8, a9, a10, a11) (nI q) :=
  br_f (nI_pos (by omega)) (pk_lt hi q (fun _ => H) (fun z => absurd z (by omega)) hl)
theorem rt_kept {q hi : Nat} (hq : q < 900) (hhi : hi < 900) : nI q ≤ nI hi - 8 ↔ q + 8 ≤ hi := by
  have e : (nI hi - 8).toInt = (hi : Int) - (8 : Nat) := pk_sub_toInt (a := hi) (b := 8) (by omega) (by omega)
  rw [Int32.le_iff_toInt_le, e, nI_toInt (by omega)]
  omega
theorem rt_isKept {post : Int32 → Prop} {ld lt w : Int32} {a1 a2 a3 a4 a5 a6 a7 a8 a9 a10 a11 : Nat → Int32} {hi q : Nat} (hl : lt = nI hi) (hhi : hi < 900) (hq : q ≤ hi) (hk : hi < q + 8) (H : post 1) : wpX_isKept post (ld, lt, w, a1, a2, a3, a4, a5, a6, a7, a8, a9, a10, a11) (nI q) := by
  unfold wpX_isKept
  refine rt_isState hl hhi hq (br_f (by decide) (br_f (fun z => ?_) H))
  rw [hl] at z
  exact absurd ((rt_kept (by omega) hhi).mp z) (by omega)
theorem rt_isKept_f {post : Int32 → Prop} {ld lt w : Int32} {a1 a2 a3 a4 a5 a6 a7 a8 a9 a10 a11 : Nat → Int32} {hi q : Nat} (hl : lt = nI hi) (hhi : hi < 900) (hk : q + 8 ≤ hi) (H : post 0) : wpX_isKept post (ld, lt, w, a1, a2, a3, a4, a5, a6, a7, a8, a9, a10, a11) (nI q) := by
  unfold wpX_isKept
  refine rt_isState hl hhi (by omega) (br_f (by decide) (br_t ?_ H))
  rw [hl]
  exact (rt_kept (by omega) hhi).mpr hk
/-- the groups that hold p -/
def rt_gr (M : Nat → Int32) (p : Nat) : Nat → Int32
  | 0 => 0
  | g + 1 => if rb_b (M g) p = true then rt_gr M p g ||| rb_one g else rt_gr M p g
/-- how many memberships differ -/
def rt_chg (M M' : Nat → Int32) : Nat → Nat
  | 0 => 0
  | g + 1 => rt_chg M M' g + rb_cnt (rb_b (M' g ^^^ M g)) 6
section
variable {E N M : Nat → Nat → Int32} {so pa pl be af : Nat → Int32}
theorem rt_gr39 (his : rt_his E N M so pa pl be af) {hi q p : Nat} {cp : Nat → Int32} (hq : q ≤ 22) (hp : p < 6) {post : Int32 → St2 → Prop} {ld lt w : Int32} {a1 a2 a3 a4 a5 a6 a7 a8 a9 a10 a11 : Nat → Int32} (ok : rt_ok E N so pa pl be af hi q cp (ld, lt, w, a1, a2, a3, a4, a5, a6, a7, a8, a9, a10, a11))
    (H : ∀ u, rt_ok E N so pa pl be af hi q cp u → post (rt_gr (M q) p 18) u) : ∃ n, wX_groups_39 post (nI p) n 0 0 ld lt w a1 a2 a3 a4 a5 a6 a7 a8 a9 a10 a11 := by
  obtain ⟨k1, k2, k3, k4, k5, k6, k7, k8⟩ := ok
  subst k1 k2 k3 k4
  refine pk_loop (σ := Int32 × (Nat → Int32) × (Nat → Int32)) (fun n i s => wX_groups_39 post (nI p) n (rt_gr (M q) p i) (nI i) (nI q) (nI hi) (s.1) (E q) (N q) a3 a4 a5 a6 a7 a8 (s.2.1) (s.2.2) a11) (fun i s => rt_ca (N q) s.2.1) 18 0 (w, a9, a10) (by omega) k7 ?_ ?_
  · rintro n ⟨w, a9, a10⟩ hc
    exact pk_le 18 18 (fun _ => H _ ⟨rfl, rfl, rfl, rfl, k5, k6, hc, k8⟩) (fun z => absurd z (by omega))
  · rintro n i ⟨w, a9, a10⟩ hi' hc hW
    have hW' : ∀ w a9 a10, rt_ca (N q) a9 → wX_groups_39 post (nI p) n (rt_gr (M q) p (i + 1)) (nI (i + 1)) (nI q) (nI hi) w (E q) (N q) a3 a4 a5 a6 a7 a8 a9 a10 a11 := fun w a9 a10 h => hW (w, a9, a10) h
    clear hW
    refine pk_le 18 i (fun z => absurd z (by omega)) (fun _ => rt_membersOf hi' k5 (his.2.1 q hq) hc (fun S w a9 a10 hS hc' => ?_))
    have t := hW' w a9 a10 hc'
    have em : rt_mem (E q) S 18 = M q i := his.2.2 q hq i hi' S hS
    rw [em]
    refine ek_if (rb_tst (M q i) (n := p) (by omega)) (fun hb => nm_r (nI_1 i) ?_) (fun hb => nm_e (nm_r (nI_1 i) ?_))
    · have e : rt_gr (M q) p (i + 1) = rt_gr (M q) p i := if_neg (by rw [hb]; decide)
      rw [e] at t
      exact t
    · have e : rt_gr (M q) p (i + 1) = rt_gr (M q) p i ||| rb_one i := if_pos (rb_nf hb)
      rw [e] at t
      exact t
theorem rt_95 {post : Int32 → St2 → Prop} {J : Int32 → Int32 → Int32 → Int32 → Int32 → (Nat → Int32) → (Nat → Int32) → (Nat → Int32) → (Nat → Int32) → (Nat → Int32) → (Nat → Int32) → (Nat → Int32) → (Nat → Int32) → (Nat → Int32) → (Nat → Int32) → (Nat → Int32) → Prop} {g c : Nat} (hg : g < 18) {x5 : Int32} {ld lt w : Int32} {a1 a2 a3 a4 a5 a6 a7 a8 a9 a10 a11 : Nat → Int32}
    (H : J (nI (c + rb_cnt (rb_b (x5 ^^^ a11 g)) 6)) (nI (g + 1)) ld lt w a1 a2 a3 a4 a5 a6 a7 a8 a9 a10 a11) : ∃ n, wX_changed_95 post J (nI g) x5 ld lt w a1 a2 a3 a4 a5 a6 a7 a8 a9 a10 a11 n (nI c) 0 := by
  refine pk_loop (σ := Unit) (fun n i _ => wX_changed_95 post J (nI g) x5 ld lt w a1 a2 a3 a4 a5 a6 a7 a8 a9 a10 a11 n (nI (c + rb_cnt (rb_b (x5 ^^^ a11 g)) i)) (nI i)) (fun _ _ => True) 6 0 () (by omega) trivial ?_ ?_
  · intro n _ _
    exact pk_le 6 6 (fun _ => nm_r (nI_1 g) H) (fun z => absurd z (by omega))
  · intro n i _ hi _ hW
    refine pk_le 6 i (fun z => absurd z (by omega)) (fun _ => ⟨pk_in g 18 hg, nm_r ?_ (nm_r (nI_1 i) (hW () trivial))⟩)
    rw [nI_clamp (by omega), rb_bit _ (n := i) (by omega), nI_add, Nat.add_assoc]
    rfl
theorem rt_77 (his : rt_his E N M so pa pl be af) {hi q : Nat} {cp : Nat → Int32} (hq : q ≤ 22) {C : Nat → Int32} (hC : ∀ g, g < 18 → cp g = C g) {post : Int32 → St2 → Prop} {ld lt w : Int32} {a1 a2 a3 a4 a5 a6 a7 a8 a9 a10 a11 : Nat → Int32} (ok : rt_ok E N so pa pl be af hi q cp (ld, lt, w, a1, a2, a3, a4, a5, a6, a7, a8, a9, a10, a11))
    (H : ∀ u, rt_ok E N so pa pl be af hi q cp u → post (nI (rt_chg C (M q) 18)) u) : ∃ n, wX_changed_77 post n 0 0 ld lt w a1 a2 a3 a4 a5 a6 a7 a8 a9 a10 a11 := by
  obtain ⟨k1, k2, k3, k4, k5, k6, k7, k8⟩ := ok
  subst k1 k2 k3 k4
  refine pk_loop (σ := Int32 × (Nat → Int32) × (Nat → Int32)) (fun n i s => wX_changed_77 post n (nI (rt_chg C (M q) i)) (nI i) (nI q) (nI hi) (s.1) (E q) (N q) a3 a4 a5 a6 a7 a8 (s.2.1) (s.2.2) a11) (fun i s => rt_ca (N q) s.2.1) 18 0 (w, a9, a10) (by omega) k7 ?_ ?_
  · rintro n ⟨w, a9, a10⟩ hc
    exact pk_le 18 18 (fun _ => H _ ⟨rfl, rfl, rfl, rfl, k5, k6, hc, k8⟩) (fun z => absurd z (by omega))
  · rintro n i ⟨w, a9, a10⟩ hi' hc hW
    have hW' : ∀ w a9 a10, rt_ca (N q) a9 → wX_changed_77 post n (nI (rt_chg C (M q) (i + 1))) (nI (i + 1)) (nI q) (nI hi) w (E q) (N q) a3 a4 a5 a6 a7 a8 a9 a10 a11 := fun w a9 a10 h => hW (w, a9, a10) h
    clear hW
    refine pk_le 18 i (fun z => absurd z (by omega)) (fun _ => rt_membersOf hi' k5 (his.2.1 q hq) hc (fun S w a9 a10 hS hc' => ?_))
    have t := hW' w a9 a10 hc'
    have em : rt_mem (E q) S 18 = M q i := his.2.2 q hq i hi' S hS
    rw [em]
    refine rt_95 hi' ?_
    have e : rt_chg C (M q) (i + 1) = rt_chg C (M q) i + rb_cnt (rb_b (M q i ^^^ a11 i)) 6 := by
      rw [k8, hC i hi']
      rfl
    rw [e] at t
    exact t
theorem rt_44 (his : rt_his E N M so pa pl be af) {hi q q2 : Nat} {cp : Nat → Int32} (hhi : hi ≤ 22) (hq : q ≤ hi) (hk : hi < q + 8) (hq2 : q2 ≤ hi) (hk2 : hi < q2 + 8) {post : Int32 → St2 → Prop} {ld lt w : Int32} {a1 a2 a3 a4 a5 a6 a7 a8 a9 a10 a11 : Nat → Int32} (ok : rt_ok E N so pa pl be af hi q cp (ld, lt, w, a1, a2, a3, a4, a5, a6, a7, a8, a9, a10, a11))
    (H : ∀ u, rt_st E N so pa pl be af hi u → post (nI (rt_chg (M q) (M q2) 18)) u) : ∃ n, wX_changed_44 post (nI q2) n 0 ld lt w a1 a2 a3 a4 a5 a6 a7 a8 a9 a10 a11 := by
  obtain ⟨k1, k2, k3, k4, k5, k6, k7, k8⟩ := ok
  subst k1 k2 k3 k4
  refine pk_loop (σ := Int32 × (Nat → Int32) × (Nat → Int32) × (Nat → Int32)) (fun n i s => wX_changed_44 post (nI q2) n (nI i) (nI q) (nI hi) (s.1) (E q) (N q) a3 a4 a5 a6 a7 a8 (s.2.1) (s.2.2.1) (s.2.2.2)) (fun i s => rt_ca (N q) s.2.1 ∧ ∀ k, k < i → s.2.2.2 k = M q k) 18 0 (w, a9, a10, a11) (by omega) ⟨k7, fun k hk => absurd hk (by omega)⟩ ?_ ?_
  · rintro n ⟨w, a9, a10, a11⟩ ⟨hc, hm⟩
    refine pk_le 18 18 (fun _ => ?_) (fun z => absurd z (by omega))
    refine rt_load (s := q) (cp := a11) (by omega) (fun r hr => his.1 r (by omega)) hq hk hq2 hk2 ⟨rfl, rfl, rfl, rfl, k5, k6, hc, rfl⟩ (fun u hu => ?_)
    obtain ⟨ld, lt, w, a1, a2, a3, a4, a5, a6, a7, a8, a9, a10, a11⟩ := u
    exact rt_77 his (by omega) hm hu (fun u hu => H u ⟨q2, _, hq2, hk2, hu⟩)
  · rintro n i ⟨w, a9, a10, a11⟩ hi' ⟨hc, hm⟩ hW
    have hW' : ∀ w a9 a10 a11, rt_ca (N q) a9 → (∀ k, k < i + 1 → a11 k = M q k) → wX_changed_44 post (nI q2) n (nI (i + 1)) (nI q) (nI hi) w (E q) (N q) a3 a4 a5 a6 a7 a8 a9 a10 a11 := fun w a9 a10 a11 h1 h2 => hW (w, a9, a10, a11) ⟨h1, h2⟩
    clear hW
    refine pk_le 18 i (fun z => absurd z (by omega)) (fun _ => rt_membersOf_2 hi' k5 (his.2.1 q (by omega)) hc (fun S w a9 a10 hS hc' => ?_))
    have em : rt_mem (E q) S 18 = M q i := his.2.2 q (by omega) i hi' S hS
    rw [em]
    refine ⟨pk_in i 18 hi', nm_r (by rw [nI_clamp (by omega)]) (nm_r (nI_1 i) (hW' _ _ _ _ hc' (fun k hk => ?_)))⟩
    by_cases e : k = i
    · rw [e, pk_us]
    · rw [pk_un e]
      exact hm k (by omega)
end
end
section
/-! the calls: kept, gone, bad -/
section
variable {E N M : Nat → Nat → Int32} {so pa pl be af : Nat → Int32}
theorem rt_latest {hi : Nat} {u : St2} (st : rt_st E N so pa pl be af hi u) {post : Int32 → Prop} (H : post (nI hi)) : wpX_latest post u := by
  obtain ⟨ld, lt, w, a1, a2, a3, a4, a5, a6, a7, a8, a9, a10, a11⟩ := u
  obtain ⟨s, cp, _, _, ok⟩ := st
  exact ek_v (P := post) ok.2.1 H
theorem rt_check (his : rt_his E N M so pa pl be af) {hi q p g : Nat} (hhi : hi ≤ 22) (hq : q ≤ hi) (hk : hi < q + 8) (hp : p < 6) (hg : g < 18) {u : St2} (st : rt_st E N so pa pl be af hi u) {post : Int32 → St2 → Prop}
    (H : ∀ u, rt_st E N so pa pl be af hi u → post ((M q g >>> (nI p &&& 31)) &&& 1) u) : wpX_check post u (nI q) (nI p) (nI g) := by
  obtain ⟨ld, lt, w, a1, a2, a3, a4, a5, a6, a7, a8, a9, a10, a11⟩ := u
  obtain ⟨s, cp, hs, hks, ok⟩ := st
  have hl : lt = nI hi := ok.2.1
  unfold wpX_check
  refine rt_isPerson hp (br_f (by decide) (rt_isGroup hg (br_f (by decide) (rt_isState hl (by omega) hq (br_f (by decide) (rt_isKept hl (by omega) hq hk (br_f (by decide) ?_)))))))
  refine rt_load (by omega) (fun r hr => his.1 r (by omega)) hs hks hq hk ok (fun u hu => ?_)
  obtain ⟨ld, lt, w, a1, a2, a3, a4, a5, a6, a7, a8, a9, a10, a11⟩ := u
  obtain ⟨k1, k2, k3, k4, k5, k6, k7, k8⟩ := hu
  subst k3 k4
  refine rt_membersOf hg k5 (his.2.1 q (by omega)) k7 (fun S w a9 a10 hS hc => ?_)
  rw [his.2.2 q (by omega) g hg S hS]
  exact H _ ⟨q, cp, hq, hk, k1, k2, rfl, rfl, k5, k6, hc, k8⟩
theorem rt_check_g {hi q p g : Nat} (hhi : hi ≤ 22) (hk : q + 8 ≤ hi) (hp : p < 6) (hg : g < 18) {u : St2} (st : rt_st E N so pa pl be af hi u) {post : Int32 → St2 → Prop}
    (H : post (-2) u) : wpX_check post u (nI q) (nI p) (nI g) := by
  obtain ⟨ld, lt, w, a1, a2, a3, a4, a5, a6, a7, a8, a9, a10, a11⟩ := u
  obtain ⟨s, cp, hs, hks, ok⟩ := st
  have hl : lt = nI hi := ok.2.1
  unfold wpX_check
  exact rt_isPerson hp (br_f (by decide) (rt_isGroup hg (br_f (by decide) (rt_isState hl (by omega) (by omega) (br_f (by decide) (rt_isKept_f hl (by omega) hk (br_t rfl H)))))))
theorem rt_check_b {hi q p g : Nat} (hhi : hi ≤ 22) (hq : hi < q) (hq9 : q < 900) (hp : p < 6) (hg : g < 18) {u : St2} (st : rt_st E N so pa pl be af hi u) {post : Int32 → St2 → Prop}
    (H : post (-1) u) : wpX_check post u (nI q) (nI p) (nI g) := by
  obtain ⟨ld, lt, w, a1, a2, a3, a4, a5, a6, a7, a8, a9, a10, a11⟩ := u
  obtain ⟨s, cp, hs, hks, ok⟩ := st
  have hl : lt = nI hi := ok.2.1
  unfold wpX_check
  exact rt_isPerson hp (br_f (by decide) (rt_isGroup hg (br_f (by decide) (rt_isState_f hl hq9 hq (br_t rfl H)))))
theorem rt_members (his : rt_his E N M so pa pl be af) {hi q g : Nat} (hhi : hi ≤ 22) (hq : q ≤ hi) (hk : hi < q + 8) (hg : g < 18) {u : St2} (st : rt_st E N so pa pl be af hi u) {post : Int32 → St2 → Prop}
    (H : ∀ u, rt_st E N so pa pl be af hi u → post (M q g) u) : wpX_members post u (nI q) (nI g) := by
  obtain ⟨ld, lt, w, a1, a2, a3, a4, a5, a6, a7, a8, a9, a10, a11⟩ := u
  obtain ⟨s, cp, hs, hks, ok⟩ := st
  have hl : lt = nI hi := ok.2.1
  unfold wpX_members
  refine rt_isGroup hg (br_f (by decide) (rt_isState hl (by omega) hq (br_f (by decide) (rt_isKept hl (by omega) hq hk (br_f (by decide) ?_)))))
  refine rt_load (by omega) (fun r hr => his.1 r (by omega)) hs hks hq hk ok (fun u hu => ?_)
  obtain ⟨ld, lt, w, a1, a2, a3, a4, a5, a6, a7, a8, a9, a10, a11⟩ := u
  obtain ⟨k1, k2, k3, k4, k5, k6, k7, k8⟩ := hu
  subst k3 k4
  refine rt_membersOf hg k5 (his.2.1 q (by omega)) k7 (fun S w a9 a10 hS hc => ?_)
  rw [his.2.2 q (by omega) g hg S hS]
  exact H _ ⟨q, cp, hq, hk, k1, k2, rfl, rfl, k5, k6, hc, k8⟩
theorem rt_members_g {hi q g : Nat} (hhi : hi ≤ 22) (hk : q + 8 ≤ hi) (hg : g < 18) {u : St2} (st : rt_st E N so pa pl be af hi u) {post : Int32 → St2 → Prop}
    (H : post (-2) u) : wpX_members post u (nI q) (nI g) := by
  obtain ⟨ld, lt, w, a1, a2, a3, a4, a5, a6, a7, a8, a9, a10, a11⟩ := u
  obtain ⟨s, cp, hs, hks, ok⟩ := st
  have hl : lt = nI hi := ok.2.1
  unfold wpX_members
  exact rt_isGroup hg (br_f (by decide) (rt_isState hl (by omega) (by omega) (br_f (by decide) (rt_isKept_f hl (by omega) hk (br_t rfl H)))))
theorem rt_members_b {hi q g : Nat} (hhi : hi ≤ 22) (hq : hi < q) (hq9 : q < 900) (hg : g < 18) {u : St2} (st : rt_st E N so pa pl be af hi u) {post : Int32 → St2 → Prop}
    (H : post (-1) u) : wpX_members post u (nI q) (nI g) := by
  obtain ⟨ld, lt, w, a1, a2, a3, a4, a5, a6, a7, a8, a9, a10, a11⟩ := u
  obtain ⟨s, cp, hs, hks, ok⟩ := st
  have hl : lt = nI hi := ok.2.1
  unfold wpX_members
  exact rt_isGroup hg (br_f (by decide) (rt_isState_f hl hq9 hq (br_t rfl H)))
theorem rt_sources (his : rt_his E N M so pa pl be af) {hi q g : Nat} (hhi : hi ≤ 22) (hq : q ≤ hi) (hk : hi < q + 8) (hg : g < 18) {u : St2} (st : rt_st E N so pa pl be af hi u) {post : Int32 → St2 → Prop}
    (H : ∀ S u, rt_src (N q) g S → rt_st E N so pa pl be af hi u → post S u) : wpX_sources post u (nI q) (nI g) := by
  obtain ⟨ld, lt, w, a1, a2, a3, a4, a5, a6, a7, a8, a9, a10, a11⟩ := u
  obtain ⟨s, cp, hs, hks, ok⟩ := st
  have hl : lt = nI hi := ok.2.1
  unfold wpX_sources
  refine rt_isGroup hg (br_f (by decide) (rt_isState hl (by omega) hq (br_f (by decide) (rt_isKept hl (by omega) hq hk (br_f (by decide) ?_)))))
  refine rt_load (by omega) (fun r hr => his.1 r (by omega)) hs hks hq hk ok (fun u hu => ?_)
  obtain ⟨ld, lt, w, a1, a2, a3, a4, a5, a6, a7, a8, a9, a10, a11⟩ := u
  obtain ⟨k1, k2, k3, k4, k5, k6, k7, k8⟩ := hu
  subst k3 k4
  refine rt_srcTo hg k5 (his.2.1 q (by omega)) k7 (fun S w a9 a10 hS hc => ?_)
  exact H S _ hS ⟨q, cp, hq, hk, k1, k2, rfl, rfl, k5, k6, hc, k8⟩
theorem rt_sources_g {hi q g : Nat} (hhi : hi ≤ 22) (hk : q + 8 ≤ hi) (hg : g < 18) {u : St2} (st : rt_st E N so pa pl be af hi u) {post : Int32 → St2 → Prop}
    (H : post (-2) u) : wpX_sources post u (nI q) (nI g) := by
  obtain ⟨ld, lt, w, a1, a2, a3, a4, a5, a6, a7, a8, a9, a10, a11⟩ := u
  obtain ⟨s, cp, hs, hks, ok⟩ := st
  have hl : lt = nI hi := ok.2.1
  unfold wpX_sources
  exact rt_isGroup hg (br_f (by decide) (rt_isState hl (by omega) (by omega) (br_f (by decide) (rt_isKept_f hl (by omega) hk (br_t rfl H)))))
theorem rt_sources_b {hi q g : Nat} (hhi : hi ≤ 22) (hq : hi < q) (hq9 : q < 900) (hg : g < 18) {u : St2} (st : rt_st E N so pa pl be af hi u) {post : Int32 → St2 → Prop}
    (H : post (-1) u) : wpX_sources post u (nI q) (nI g) := by
  obtain ⟨ld, lt, w, a1, a2, a3, a4, a5, a6, a7, a8, a9, a10, a11⟩ := u
  obtain ⟨s, cp, hs, hks, ok⟩ := st
  have hl : lt = nI hi := ok.2.1
  unfold wpX_sources
  exact rt_isGroup hg (br_f (by decide) (rt_isState_f hl hq9 hq (br_t rfl H)))
theorem rt_groups (his : rt_his E N M so pa pl be af) {hi q p : Nat} (hhi : hi ≤ 22) (hq : q ≤ hi) (hk : hi < q + 8) (hp : p < 6) {u : St2} (st : rt_st E N so pa pl be af hi u) {post : Int32 → St2 → Prop}
    (H : ∀ u, rt_st E N so pa pl be af hi u → post (rt_gr (M q) p 18) u) : wpX_groups post u (nI q) (nI p) := by
  obtain ⟨ld, lt, w, a1, a2, a3, a4, a5, a6, a7, a8, a9, a10, a11⟩ := u
  obtain ⟨s, cp, hs, hks, ok⟩ := st
  have hl : lt = nI hi := ok.2.1
  unfold wpX_groups
  refine rt_isPerson hp (br_f (by decide) (rt_isState hl (by omega) hq (br_f (by decide) (rt_isKept hl (by omega) hq hk (br_f (by decide) ?_)))))
  refine rt_load (by omega) (fun r hr => his.1 r (by omega)) hs hks hq hk ok (fun u hu => ?_)
  obtain ⟨ld, lt, w, a1, a2, a3, a4, a5, a6, a7, a8, a9, a10, a11⟩ := u
  exact rt_gr39 his (by omega) hp hu (fun u hu => H u ⟨q, cp, hq, hk, hu⟩)
theorem rt_groups_g {hi q p : Nat} (hhi : hi ≤ 22) (hk : q + 8 ≤ hi) (hp : p < 6) {u : St2} (st : rt_st E N so pa pl be af hi u) {post : Int32 → St2 → Prop}
    (H : post (-2) u) : wpX_groups post u (nI q) (nI p) := by
  obtain ⟨ld, lt, w, a1, a2, a3, a4, a5, a6, a7, a8, a9, a10, a11⟩ := u
  obtain ⟨s, cp, hs, hks, ok⟩ := st
  have hl : lt = nI hi := ok.2.1
  unfold wpX_groups
  exact rt_isPerson hp (br_f (by decide) (rt_isState hl (by omega) (by omega) (br_f (by decide) (rt_isKept_f hl (by omega) hk (br_t rfl H)))))
theorem rt_groups_b {hi q p : Nat} (hhi : hi ≤ 22) (hq : hi < q) (hq9 : q < 900) (hp : p < 6) {u : St2} (st : rt_st E N so pa pl be af hi u) {post : Int32 → St2 → Prop}
    (H : post (-1) u) : wpX_groups post u (nI q) (nI p) := by
  obtain ⟨ld, lt, w, a1, a2, a3, a4, a5, a6, a7, a8, a9, a10, a11⟩ := u
  obtain ⟨s, cp, hs, hks, ok⟩ := st
  have hl : lt = nI hi := ok.2.1
  unfold wpX_groups
  exact rt_isPerson hp (br_f (by decide) (rt_isState_f hl hq9 hq (br_t rfl H)))
theorem rt_changed (his : rt_his E N M so pa pl be af) {hi q q2 : Nat} (hhi : hi ≤ 22) (hq : q ≤ hi) (hk : hi < q + 8) (hq2 : q2 ≤ hi) (hk2 : hi < q2 + 8) {u : St2} (st : rt_st E N so pa pl be af hi u) {post : Int32 → St2 → Prop}
    (H : ∀ u, rt_st E N so pa pl be af hi u → post (nI (rt_chg (M q) (M q2) 18)) u) : wpX_changed post u (nI q) (nI q2) := by
  obtain ⟨ld, lt, w, a1, a2, a3, a4, a5, a6, a7, a8, a9, a10, a11⟩ := u
  obtain ⟨s, cp, hs, hks, ok⟩ := st
  have hl : lt = nI hi := ok.2.1
  unfold wpX_changed
  refine rt_isState hl (by omega) hq (br_f (by decide) (rt_isState hl (by omega) hq2 (br_f (by decide) (rt_isKept hl (by omega) hq hk (br_f (by decide) (rt_isKept hl (by omega) hq2 hk2 (br_f (by decide) ?_)))))))
  refine rt_load (by omega) (fun r hr => his.1 r (by omega)) hs hks hq hk ok (fun u hu => ?_)
  obtain ⟨ld, lt, w, a1, a2, a3, a4, a5, a6, a7, a8, a9, a10, a11⟩ := u
  exact rt_44 his hhi hq hk hq2 hk2 hu H
theorem rt_changed_g1 {hi q q2 : Nat} (hhi : hi ≤ 22) (hk : q + 8 ≤ hi) (hq2 : q2 ≤ hi) {u : St2} (st : rt_st E N so pa pl be af hi u) {post : Int32 → St2 → Prop}
    (H : post (-2) u) : wpX_changed post u (nI q) (nI q2) := by
  obtain ⟨ld, lt, w, a1, a2, a3, a4, a5, a6, a7, a8, a9, a10, a11⟩ := u
  obtain ⟨s, cp, hs, hks, ok⟩ := st
  have hl : lt = nI hi := ok.2.1
  unfold wpX_changed
  exact rt_isState hl (by omega) (by omega) (br_f (by decide) (rt_isState hl (by omega) hq2 (br_f (by decide) (rt_isKept_f hl (by omega) hk (br_t rfl H)))))
theorem rt_changed_g2 {hi q q2 : Nat} (hhi : hi ≤ 22) (hk2 : q2 + 8 ≤ hi) (hq : q ≤ hi) (hk : hi < q + 8) {u : St2} (st : rt_st E N so pa pl be af hi u) {post : Int32 → St2 → Prop}
    (H : post (-2) u) : wpX_changed post u (nI q) (nI q2) := by
  obtain ⟨ld, lt, w, a1, a2, a3, a4, a5, a6, a7, a8, a9, a10, a11⟩ := u
  obtain ⟨s, cp, hs, hks, ok⟩ := st
  have hl : lt = nI hi := ok.2.1
  unfold wpX_changed
  exact rt_isState hl (by omega) hq (br_f (by decide) (rt_isState hl (by omega) (by omega) (br_f (by decide) (rt_isKept hl (by omega) hq hk (br_f (by decide) (rt_isKept_f hl (by omega) hk2 (br_t rfl H)))))))
theorem rt_changed_b1 {hi q q2 : Nat} (hhi : hi ≤ 22) (hq : hi < q) (hq9 : q < 900) {u : St2} (st : rt_st E N so pa pl be af hi u) {post : Int32 → St2 → Prop}
    (H : post (-1) u) : wpX_changed post u (nI q) (nI q2) := by
  obtain ⟨ld, lt, w, a1, a2, a3, a4, a5, a6, a7, a8, a9, a10, a11⟩ := u
  obtain ⟨s, cp, hs, hks, ok⟩ := st
  have hl : lt = nI hi := ok.2.1
  unfold wpX_changed
  exact rt_isState_f hl hq9 hq (br_t rfl H)
theorem rt_changed_b2 {hi q q2 : Nat} (hhi : hi ≤ 22) (hq : q ≤ hi) (hq2 : hi < q2) (hq9 : q2 < 900) {u : St2} (st : rt_st E N so pa pl be af hi u) {post : Int32 → St2 → Prop}
    (H : post (-1) u) : wpX_changed post u (nI q) (nI q2) := by
  obtain ⟨ld, lt, w, a1, a2, a3, a4, a5, a6, a7, a8, a9, a10, a11⟩ := u
  obtain ⟨s, cp, hs, hks, ok⟩ := st
  have hl : lt = nI hi := ok.2.1
  unfold wpX_changed
  exact rt_isState hl (by omega) hq (br_f (by decide) (rt_isState_f hl hq9 hq2 (br_t rfl H)))
theorem rt_since (his : rt_his E N M so pa pl be af) {q p g : Nat} (hq : q ≤ 21) (hp : p < 6) (hg : g < 18) (r : Nat) (hr : r = if 14 ≤ q then q else 14) (hm : rb_b (M r g) p = true) {u : St2} (st : rt_st E N so pa pl be af 21 u) {post : Int32 → St2 → Prop}
    (H : ∀ u, rt_st E N so pa pl be af 21 u → post (nI r) u) : wpX_since post u (nI p) (nI g) (nI q) := by
  obtain ⟨ld, lt, w, a1, a2, a3, a4, a5, a6, a7, a8, a9, a10, a11⟩ := u
  obtain ⟨s, cp, hs, hks, ok⟩ := st
  have hl : lt = nI 21 := ok.2.1
  have hr1 : r ≤ 21 := by rw [hr]; split <;> omega
  have hr2 : 14 ≤ r := by rw [hr]; split <;> omega
  have main : ∃ n, wX_since_55 post (nI p) (nI g) n (nI r) ld lt w a1 a2 a3 a4 a5 a6 a7 a8 a9 a10 a11 := by
    refine ⟨1, pk_lt 21 r (fun z => absurd z (by omega)) (fun _ => ?_) hl⟩
    refine rt_load (by omega) (fun x hx => his.1 x (by omega)) hs hks hr1 (by omega) ok (fun u hu => ?_)
    obtain ⟨ld, lt, w, a1, a2, a3, a4, a5, a6, a7, a8, a9, a10, a11⟩ := u
    obtain ⟨k1, k2, k3, k4, k5, k6, k7, k8⟩ := hu
    subst k3 k4
    refine rt_membersOf hg k5 (his.2.1 r (by omega)) k7 (fun S w a9 a10 hS hc => ?_)
    rw [his.2.2 r (by omega) g hg S hS]
    refine ek_if (rb_tst (M r g) (n := p) (by omega)) (fun hb => absurd hm (by rw [hb]; decide)) (fun _ => ?_)
    exact H _ ⟨r, cp, hr1, by omega, k1, k2, rfl, rfl, k5, k6, hc, k8⟩
  unfold wpX_since
  refine rt_isPerson hp (br_f (by decide) (rt_isGroup hg (br_f (by decide) (rt_isState hl (by omega) hq (br_f (by decide) ?_)))))
  refine nm_r (e' := nI 14) (by rw [hl]; decide) (pk_le 14 q (fun z => ?_) (fun z => ?_))
  · rw [if_pos z] at hr
    rw [← hr]
    exact main
  · rw [if_neg (by omega)] at hr
    rw [← hr]
    exact main
theorem rt_since_b {hi q p g : Nat} (hhi : hi ≤ 22) (hq : hi < q) (hq9 : q < 900) (hp : p < 6) (hg : g < 18) {u : St2} (st : rt_st E N so pa pl be af hi u) {post : Int32 → St2 → Prop}
    (H : post (-1) u) : wpX_since post u (nI p) (nI g) (nI q) := by
  obtain ⟨ld, lt, w, a1, a2, a3, a4, a5, a6, a7, a8, a9, a10, a11⟩ := u
  obtain ⟨s, cp, hs, hks, ok⟩ := st
  have hl : lt = nI hi := ok.2.1
  unfold wpX_since
  exact rt_isPerson hp (br_f (by decide) (rt_isGroup hg (br_f (by decide) (rt_isState_f hl hq9 hq (br_t rfl H)))))
theorem rt_enter (his : rt_his E N M so pa pl be af) {hi i j : Nat} {b : Int32} (hhi : hi < 22) (hi6 : i < 6) (hj : j < 18) (e0 : so (hi + 1) = 0) (e1 : pa (hi + 1) = nI i) (e2 : pl (hi + 1) = nI j) (e3 : be (hi + 1) = nI (rb_b (E hi j) i).toNat) (e4 : af (hi + 1) = b)
    {u : St2} (st : rt_st E N so pa pl be af hi u) {post : Int32 → St2 → Prop} (H : ∀ u, rt_st E N so pa pl be af (hi + 1) u → post (nI (hi + 1)) u) : wpX_enter post u (nI i) (nI j) b := by
  obtain ⟨ld, lt, w, a1, a2, a3, a4, a5, a6, a7, a8, a9, a10, a11⟩ := u
  obtain ⟨s, cp, hs, hks, ok⟩ := st
  unfold wpX_enter
  refine rt_isPerson hi6 (br_f (by decide) (rt_isGroup hj (br_f (by decide) ?_)))
  have hl : lt = nI hi := ok.2.1
  subst hl
  refine rt_load (by omega) (fun r hr => his.1 r (by omega)) hs hks (Nat.le_refl hi) (by omega) ok (fun u hu => ?_)
  obtain ⟨ld, lt, w, a1, a2, a3, a4, a5, a6, a7, a8, a9, a10, a11⟩ := u
  have h1 : a1 = E hi := hu.2.2.1
  have main : wpX_noteChange (fun u => match u with | (ld, lt, w, a1, a2, a3, a4, a5, a6, a7, a8, a9, a10, a11) => post lt (ld, lt, w, a1, a2, a3, a4, a5, a6, a7, a8, a9, a10, a11)) (ld, lt, w, a1, a2, a3, a4, a5, a6, a7, a8, a9, a10, a11) (so (hi + 1)) (pa (hi + 1)) (pl (hi + 1)) (be (hi + 1)) (af (hi + 1)) := by
    refine rt_note (by omega) (his.1 hi hhi) hu (fun u hu => ?_)
    obtain ⟨ld, lt, w, a1, a2, a3, a4, a5, a6, a7, a8, a9, a10, a11⟩ := u
    have hl : lt = nI (hi + 1) := hu.2.1
    subst hl
    exact H _ ⟨hi + 1, cp, Nat.le_refl _, by omega, hu⟩
  rw [e0, e1, e2, e3, e4] at main
  refine ⟨pk_in j 18 hj, ?_⟩
  rw [h1, nI_clamp (show j < 2 ^ 31 by omega)]
  rw [h1] at main
  refine ek_if (rb_tst (E hi j) (n := i) (by omega)) (fun hb => ?_) (fun hb => ?_)
  · rw [hb] at main
    exact main
  · rw [rb_nf hb] at main
    exact main
theorem rt_nest (his : rt_his E N M so pa pl be af) {hi i j : Nat} {b : Int32} (hhi : hi < 22) (hi6 : i < 18) (hj : j < 18) (e0 : so (hi + 1) = 1) (e1 : pa (hi + 1) = nI i) (e2 : pl (hi + 1) = nI j) (e3 : be (hi + 1) = nI (rb_b (N hi j) i).toNat) (e4 : af (hi + 1) = b)
    {u : St2} (st : rt_st E N so pa pl be af hi u) {post : Int32 → St2 → Prop} (H : ∀ u, rt_st E N so pa pl be af (hi + 1) u → post (nI (hi + 1)) u) : wpX_nest post u (nI i) (nI j) b := by
  obtain ⟨ld, lt, w, a1, a2, a3, a4, a5, a6, a7, a8, a9, a10, a11⟩ := u
  obtain ⟨s, cp, hs, hks, ok⟩ := st
  unfold wpX_nest
  refine rt_isGroup hi6 (br_f (by decide) (rt_isGroup hj (br_f (by decide) ?_)))
  have hl : lt = nI hi := ok.2.1
  subst hl
  refine rt_load (by omega) (fun r hr => his.1 r (by omega)) hs hks (Nat.le_refl hi) (by omega) ok (fun u hu => ?_)
  obtain ⟨ld, lt, w, a1, a2, a3, a4, a5, a6, a7, a8, a9, a10, a11⟩ := u
  have h1 : a2 = N hi := hu.2.2.2.1
  have main : wpX_noteChange (fun u => match u with | (ld, lt, w, a1, a2, a3, a4, a5, a6, a7, a8, a9, a10, a11) => post lt (ld, lt, w, a1, a2, a3, a4, a5, a6, a7, a8, a9, a10, a11)) (ld, lt, w, a1, a2, a3, a4, a5, a6, a7, a8, a9, a10, a11) (so (hi + 1)) (pa (hi + 1)) (pl (hi + 1)) (be (hi + 1)) (af (hi + 1)) := by
    refine rt_note (by omega) (his.1 hi hhi) hu (fun u hu => ?_)
    obtain ⟨ld, lt, w, a1, a2, a3, a4, a5, a6, a7, a8, a9, a10, a11⟩ := u
    have hl : lt = nI (hi + 1) := hu.2.1
    subst hl
    exact H _ ⟨hi + 1, cp, Nat.le_refl _, by omega, hu⟩
  rw [e0, e1, e2, e3, e4] at main
  refine ⟨pk_in j 18 hj, ?_⟩
  rw [h1, nI_clamp (show j < 2 ^ 31 by omega)]
  rw [h1] at main
  refine ek_if (rb_tst (N hi j) (n := i) (by omega)) (fun hb => ?_) (fun hb => ?_)
  · rw [hb] at main
    exact main
  · rw [rb_nf hb] at main
    exact main
end
theorem rt_nest_b {u : St2} {post : Int32 → St2 → Prop} (H : post (-1) u) : wpX_nest post u 18 0 1 := by
  obtain ⟨ld, lt, w, a1, a2, a3, a4, a5, a6, a7, a8, a9, a10, a11⟩ := u
  exact br_f (by decide) (br_t (by decide) (br_t rfl H))
theorem rt_rule_b1 {u : St2} {post : Int32 → St2 → Prop} (H : post (-1) u) : wpX_rule post u 1 1 1 := by
  obtain ⟨ld, lt, w, a1, a2, a3, a4, a5, a6, a7, a8, a9, a10, a11⟩ := u
  exact br_f (by decide) (br_f (by decide) (br_f (by decide) (br_f (by decide) (br_t rfl H))))
theorem rt_rule_b3 {u : St2} {post : Int32 → St2 → Prop} (H : post (-1) u) : wpX_rule post u 3 0 1 := by
  obtain ⟨ld, lt, w, a1, a2, a3, a4, a5, a6, a7, a8, a9, a10, a11⟩ := u
  exact br_f (by decide) (br_t (by decide) H)
end
section
/-! this law's history: a chain of groups -/
def rc_c (f t k : Nat) : Nat := (f + k * t) % 18
def rc_V (f t : Nat) : Nat → Int32
  | 0 => rb_one f
  | k + 1 => rc_V f t k ||| rb_one (rc_c f t (k + 1))
def rc_E (f p : Nat) (q j : Nat) : Int32 := if 1 ≤ q ∧ q ≤ 21 ∧ j = f then rb_one p else 0
def rc_N (f t : Nat) : Nat → Nat → Int32
  | 0 => fun _ => 0
  | q + 1 => if 1 ≤ q ∧ q ≤ 20 then rt_put (rc_N f t q) (rc_c f t (q - 1)) (rc_c f t q) 1 else rc_N f t q
def rc_M (f t p : Nat) (q j : Nat) : Int32 := if 1 ≤ q ∧ q ≤ 21 ∧ rb_b (rc_V f t (q - 1)) j = true then rb_one p else 0
def rc_so (q : Nat) : Int32 := if q = 1 ∨ q = 22 then 0 else 1
def rc_pa (f t p q : Nat) : Int32 := if q = 1 ∨ q = 22 then nI p else nI (rc_c f t (q - 2))
def rc_pl (f t q : Nat) : Int32 := if q = 1 ∨ q = 22 then nI f else nI (rc_c f t (q - 1))
def rc_af (q : Nat) : Int32 := if q = 22 then 0 else 1
def rc_be (f t p q : Nat) : Int32 := if q = 1 ∨ q = 22 then nI (rb_b (rc_E f p (q - 1) f) p).toNat else nI (rb_b (rc_N f t (q - 1) (rc_c f t (q - 1))) (rc_c f t (q - 2))).toNat
theorem rc_lt (f t k : Nat) : rc_c f t k < 18 := Nat.mod_lt _ (by omega)
theorem rc_c0 {f : Nat} (hf : f < 18) (t : Nat) : rc_c f t 0 = f := by
  unfold rc_c
  rw [Nat.zero_mul, Nat.add_zero]
  exact Nat.mod_eq_of_lt hf
theorem rc_cs (f t k : Nat) : (rc_c f t k + t) % 18 = rc_c f t (k + 1) := by
  unfold rc_c
  rw [Nat.succ_mul]
  generalize k * t = m
  omega
theorem rc_01 (b : Bool) : nI b.toNat = 0 ∨ nI b.toNat = 1 := by
  cases b
  · exact Or.inl rfl
  · exact Or.inr rfl
theorem rc_Ns {f t q : Nat} (h : 1 ≤ q ∧ q ≤ 20) : rc_N f t (q + 1) = rt_put (rc_N f t q) (rc_c f t (q - 1)) (rc_c f t q) 1 := if_pos h
theorem rc_Nn {f t q : Nat} (h : ¬ (1 ≤ q ∧ q ≤ 20)) : rc_N f t (q + 1) = rc_N f t q := if_neg h
theorem rc_E1 (f p : Nat) : rc_E f p 1 = rt_put (rc_E f p 0) p f 1 := by
  funext j
  unfold rt_put
  by_cases e : j = f
  · subst e
    rw [pk_us, if_neg (by decide)]
    unfold rc_E
    rw [if_pos ⟨by omega, by omega, rfl⟩, if_neg (by omega), rb_0or]
  · rw [pk_un e]
    unfold rc_E
    rw [if_neg (fun z => e z.2.2), if_neg (by omega)]
theorem rc_E22 (f : Nat) {p : Nat} (hp : p < 32) : rc_E f p 22 = rt_put (rc_E f p 21) p f 0 := by
  funext j
  unfold rt_put
  by_cases e : j = f
  · subst e
    rw [pk_us, if_pos rfl]
    unfold rc_E
    rw [if_neg (by omega), if_pos ⟨by omega, by omega, rfl⟩]
    apply rb_ext
    intro i hi
    rw [rb_0, rb_and, rb_not _ hi]
    cases rb_b (rb_one p) i <;> rfl
  · rw [pk_un e]
    unfold rc_E
    rw [if_neg (by omega), if_neg (fun z => e z.2.2)]
theorem rc_Eq (f p : Nat) {q : Nat} (h : 1 ≤ q ∧ q ≤ 20) : rc_E f p (q + 1) = rc_E f p q := by
  funext j
  unfold rc_E
  by_cases e : j = f
  · rw [if_pos ⟨by omega, by omega, e⟩, if_pos ⟨by omega, by omega, e⟩]
  · rw [if_neg (fun z => e z.2.2), if_neg (fun z => e z.2.2)]
theorem rc_stp {f t p : Nat} (hf : f < 18) (hp : p < 6) : ∀ q, q < 22 → rt_stp (rc_E f p) (rc_N f t) rc_so (rc_pa f t p) (rc_pl f t) (rc_be f t p) rc_af q := by
  intro q hq
  by_cases h0 : q = 0
  · subst h0
    refine ⟨p, f, by omega, hf, if_pos (Or.inl rfl), if_pos (Or.inl rfl), ?_, Or.inr rfl, Or.inl ⟨rfl, rc_Nn (by omega), rc_E1 f p, ?_⟩⟩
    · have e : rc_be f t p (0 + 1) = nI (rb_b (rc_E f p 0 f) p).toNat := if_pos (Or.inl rfl)
      rw [e]
      exact rc_01 _
    · have e : rc_be f t p (0 + 1) = nI (rb_b (rc_E f p 0 f) p).toNat := if_pos (Or.inl rfl)
      rw [e]
      have u := rt_put_undo (rc_E f p 0) (i := p) (by omega) f 1
      rw [← rc_E1 f p] at u
      exact u.symm
  · by_cases h1 : q = 21
    · subst h1
      refine ⟨p, f, by omega, hf, if_pos (Or.inr rfl), if_pos (Or.inr rfl), ?_, Or.inl rfl, Or.inl ⟨rfl, rc_Nn (by omega), rc_E22 f (by omega), ?_⟩⟩
      · have e : rc_be f t p (21 + 1) = nI (rb_b (rc_E f p 21 f) p).toNat := if_pos (Or.inr rfl)
        rw [e]
        exact rc_01 _
      · have e : rc_be f t p (21 + 1) = nI (rb_b (rc_E f p 21 f) p).toNat := if_pos (Or.inr rfl)
        rw [e]
        have u := rt_put_undo (rc_E f p 21) (i := p) (by omega) f 0
        rw [← rc_E22 f (by omega)] at u
        exact u.symm
    · have hn : ¬ (q + 1 = 1 ∨ q + 1 = 22) := by omega
      have hq2 : 1 ≤ q ∧ q ≤ 20 := by omega
      have ea : rc_af (q + 1) = 1 := if_neg (by omega)
      have e : rc_be f t p (q + 1) = nI (rb_b (rc_N f t q (rc_c f t q)) (rc_c f t (q - 1))).toNat := by
        unfold rc_be
        rw [if_neg hn, show q + 1 - 1 = q by omega, show q + 1 - 2 = q - 1 by omega]
      have e1 : rc_pa f t p (q + 1) = nI (rc_c f t (q - 1)) := by
        unfold rc_pa
        rw [if_neg hn, show q + 1 - 2 = q - 1 by omega]
      have e2 : rc_pl f t (q + 1) = nI (rc_c f t q) := by
        unfold rc_pl
        rw [if_neg hn, show q + 1 - 1 = q by omega]
      refine ⟨rc_c f t (q - 1), rc_c f t q, rc_lt _ _ _, rc_lt _ _ _, e1, e2, ?_, Or.inr ea, Or.inr ⟨if_neg hn, rc_Eq f p hq2, ?_, ?_⟩⟩
      · rw [e]
        exact rc_01 _
      · rw [ea]
        exact rc_Ns hq2
      · rw [e]
        have u := rt_put_undo (rc_N f t q) (i := rc_c f t (q - 1)) (by have := rc_lt f t (q - 1); omega) (rc_c f t q) 1
        rw [← rc_Ns hq2] at u
        exact u.symm
/-- the bits of the nesting -/
theorem rc_Nb (f t : Nat) : ∀ q j i, rb_b (rc_N f t q j) i = true ↔ ∃ k, k + 2 ≤ q ∧ k ≤ 19 ∧ rc_c f t k = i ∧ rc_c f t (k + 1) = j := by
  intro q
  induction q with
  | zero =>
    intro j i
    constructor
    · intro z
      rw [show rc_N f t 0 j = 0 from rfl, rb_0] at z
      exact absurd z (by decide)
    · rintro ⟨k, hk, _⟩
      exact absurd hk (by omega)
  | succ q ih =>
    intro j i
    by_cases hq : 1 ≤ q ∧ q ≤ 20
    · rw [rc_Ns hq]
      unfold rt_put
      rw [if_neg (by decide)]
      have hl := rc_lt f t (q - 1)
      constructor
      · intro z
        by_cases e : j = rc_c f t q
        · rw [e, pk_us, rb_or, rb_oneB (by omega)] at z
          rcases Bool.or_eq_true_iff.mp z with y | y
          · obtain ⟨k, k1, k2, k3, k4⟩ := (ih _ _).mp y
            exact ⟨k, by omega, k2, k3, by rw [k4, e]⟩
          · refine ⟨q - 1, by omega, by omega, (of_decide_eq_true y).symm, ?_⟩
            rw [show q - 1 + 1 = q by omega, e]
        · rw [pk_un e] at z
          obtain ⟨k, k1, k2, k3, k4⟩ := (ih _ _).mp z
          exact ⟨k, by omega, k2, k3, k4⟩
      · rintro ⟨k, k1, k2, k3, k4⟩
        by_cases e : j = rc_c f t q
        · rw [e, pk_us, rb_or, rb_oneB (by omega)]
          by_cases y : k = q - 1
          · rw [← k3, y, decide_eq_true rfl]
            exact Bool.or_true _
          · rw [(ih (rc_c f t q) i).mpr ⟨k, by omega, k2, k3, by rw [k4, e]⟩]
            rfl
        · rw [pk_un e]
          refine (ih j i).mpr ⟨k, ?_, k2, k3, k4⟩
          by_cases y : k = q - 1
          · rw [y, show q - 1 + 1 = q by omega] at k4
            exact absurd k4.symm e
          · omega
    · rw [rc_Nn hq, ih]
      constructor
      · rintro ⟨k, k1, k2, k3⟩
        exact ⟨k, by omega, k2, k3⟩
      · rintro ⟨k, k1, k2, k3⟩
        exact ⟨k, by omega, k2, k3⟩
theorem rc_Vb {f : Nat} (hf : f < 18) (t : Nat) : ∀ k j, rb_b (rc_V f t k) j = true ↔ ∃ i, i ≤ k ∧ rc_c f t i = j := by
  intro k
  induction k with
  | zero =>
    intro j
    show rb_b (rb_one f) j = true ↔ _
    rw [rb_oneB (by omega), decide_eq_true_iff]
    constructor
    · intro e
      exact ⟨0, by omega, by rw [rc_c0 hf, e]⟩
    · rintro ⟨i, i1, i2⟩
      rw [show i = 0 by omega, rc_c0 hf] at i2
      exact i2.symm
  | succ k ih =>
    intro j
    show rb_b (rc_V f t k ||| rb_one (rc_c f t (k + 1))) j = true ↔ _
    have hl := rc_lt f t (k + 1)
    rw [rb_or, rb_oneB (by omega), Bool.or_eq_true_iff, ih, decide_eq_true_iff]
    constructor
    · rintro (⟨i, i1, i2⟩ | e)
      · exact ⟨i, by omega, i2⟩
      · exact ⟨k + 1, by omega, e.symm⟩
    · rintro ⟨i, i1, i2⟩
      by_cases e : i = k + 1
      · exact Or.inr (by rw [← i2, e])
      · exact Or.inl ⟨i, by omega, i2⟩
theorem rc_V18 {f : Nat} (hf : f < 18) {t k j : Nat} (h : rb_b (rc_V f t k) j = true) : j < 18 := by
  obtain ⟨i, _, e⟩ := (rc_Vb hf t k j).mp h
  rw [← e]
  exact rc_lt f t i
theorem rc_mem {E : Nat → Int32} {f : Nat} (hE : ∀ j, j ≠ f → E j = 0) (S : Int32) (n : Nat) : rt_mem E S n = if f < n ∧ rb_b S f = true then E f else 0 := by
  induction n with
  | zero => rw [if_neg (by omega)]; rfl
  | succ n ih =>
    show (if rb_b S n = true then rt_mem E S n ||| E n else rt_mem E S n) = _
    by_cases e : n = f
    · subst e
      rw [if_neg (fun z => absurd z.1 (by omega))] at ih
      rw [ih]
      by_cases hb : rb_b S n = true
      · rw [if_pos hb, if_pos ⟨by omega, hb⟩, rb_0or]
      · rw [if_neg hb, if_neg (fun z => hb z.2)]
    · rw [hE n e, rb_or0, ite_self, ih]
      by_cases hb : f < n ∧ rb_b S f = true
      · rw [if_pos hb, if_pos ⟨by omega, hb.2⟩]
      · rw [if_neg hb, if_neg (fun z => hb ⟨by omega, z.2⟩)]
/-- a closed set that holds a link of the chain holds all links ahead of it -/
theorem rc_chain {f t q : Nat} (hq : q ≤ 21) {S : Int32} (cl : ∀ k, rb_b S k = true → ∀ m, rb_b (rc_N f t q k) m = true → rb_b S m = true) : ∀ i, i + 1 ≤ q → rb_b S (rc_c f t i) = true → ∀ m, m ≤ i → rb_b S (rc_c f t m) = true := by
  intro i
  induction i with
  | zero =>
    intro _ h m hm
    rw [show m = 0 by omega]
    exact h
  | succ i ih =>
    intro hi h m hm
    by_cases e : m = i + 1
    · rw [e]; exact h
    · exact ih (by omega) (cl _ h _ ((rc_Nb f t q _ _).mpr ⟨i, by omega, by omega, rfl, rfl⟩)) m (by omega)
theorem rc_hM {f t p : Nat} (hf : f < 18) : ∀ q, q ≤ 22 → ∀ g, g < 18 → ∀ S, rt_src (rc_N f t q) g S → rt_mem (rc_E f p q) S 18 = rc_M f t p q g := by
  intro q hq g hg S hS
  have hE : ∀ j, j ≠ f → rc_E f p q j = 0 := fun j hj => if_neg (fun z => hj z.2.2)
  rw [rc_mem hE S 18]
  unfold rc_M
  by_cases h1 : 1 ≤ q ∧ q ≤ 21
  · have eE : rc_E f p q f = rb_one p := if_pos ⟨h1.1, h1.2, rfl⟩
    rw [eE]
    have key : rb_b S f = true ↔ rb_b (rc_V f t (q - 1)) g = true := by
      constructor
      · intro z
        have hc := hS.2.2.1 (fun j => ¬ rb_b (rc_V f t (q - 1)) j = true)
        rcases Decidable.em (rb_b (rc_V f t (q - 1)) g = true) with y | y
        · exact y
        · refine absurd ((rc_Vb hf t (q - 1) f).mpr ⟨0, by omega, rc_c0 hf t⟩) (hc y (fun i hi k hk => ?_) f z)
          obtain ⟨m, m1, m2, m3, m4⟩ := (rc_Nb f t q i k).mp hk
          exact absurd ((rc_Vb hf t (q - 1) i).mpr ⟨m + 1, by omega, m4⟩) hi
      · intro z
        obtain ⟨i, i1, i2⟩ := (rc_Vb hf t (q - 1) g).mp z
        have h := rc_chain h1.2 hS.2.2.2 i (by omega) (by rw [i2]; exact hS.1) 0 (by omega)
        rw [rc_c0 hf] at h
        exact h
    by_cases y : rb_b S f = true
    · rw [if_pos ⟨by omega, y⟩, if_pos ⟨h1.1, h1.2, key.mp y⟩]
    · rw [if_neg (fun z => y z.2), if_neg (fun z => y (key.mpr z.2.2))]
  · have eE : rc_E f p q f = 0 := if_neg (fun z => h1 ⟨z.1, z.2.1⟩)
    rw [eE, ite_self, if_neg (fun z => h1 ⟨z.1, z.2.1⟩)]
theorem rc_his {f t p : Nat} (hf : f < 18) (hp : p < 6) : rt_his (rc_E f p) (rc_N f t) (rc_M f t p) rc_so (rc_pa f t p) (rc_pl f t) (rc_be f t p) rc_af := by
  refine ⟨rc_stp hf hp, fun q _ j k hk => ?_, rc_hM hf⟩
  obtain ⟨m, _, _, m3, _⟩ := (rc_Nb f t q j k).mp hk
  rw [← m3]
  exact rc_lt f t m
theorem rc_src {f t q : Nat} (hf : f < 18) (h1 : 1 ≤ q) (h2 : q ≤ 21) {S : Int32} (hS : rt_src (rc_N f t q) (rc_c f t (q - 1)) S) : S = rc_V f t (q - 1) := by
  apply rb_ext
  intro j _
  have a : rb_b S j = true → rb_b (rc_V f t (q - 1)) j = true := by
    intro z
    refine hS.2.2.1 (fun j => rb_b (rc_V f t (q - 1)) j = true) ((rc_Vb hf t _ _).mpr ⟨q - 1, by omega, rfl⟩) (fun i _ k hk => ?_) j z
    obtain ⟨m, m1, m2, m3, m4⟩ := (rc_Nb f t q i k).mp hk
    exact (rc_Vb hf t _ _).mpr ⟨m, by omega, m3⟩
  have b : rb_b (rc_V f t (q - 1)) j = true → rb_b S j = true := by
    intro z
    obtain ⟨i, i1, i2⟩ := (rc_Vb hf t (q - 1) j).mp z
    rw [← i2]
    exact rc_chain h2 hS.2.2.2 (q - 1) (by omega) hS.1 i i1
  cases e : rb_b S j
  · cases e' : rb_b (rc_V f t (q - 1)) j
    · rfl
    · rw [b e'] at e; exact e.symm
  · exact (a e).symm
theorem rc_grb (M : Nat → Int32) (p : Nat) (n : Nat) (hn : n ≤ 18) (i : Nat) : rb_b (rt_gr M p n) i = true ↔ i < n ∧ rb_b (M i) p = true := by
  induction n with
  | zero =>
    constructor
    · intro z
      rw [show rt_gr M p 0 = 0 from rfl, rb_0] at z
      exact absurd z (by decide)
    · intro z
      exact absurd z.1 (by omega)
  | succ n ih =>
    have ih := ih (by omega)
    show rb_b (if rb_b (M n) p = true then rt_gr M p n ||| rb_one n else rt_gr M p n) i = true ↔ _
    by_cases hb : rb_b (M n) p = true
    · rw [if_pos hb, rb_or, rb_oneB (by omega), Bool.or_eq_true_iff, ih, decide_eq_true_iff]
      constructor
      · rintro (⟨z1, z2⟩ | z)
        · exact ⟨by omega, z2⟩
        · rw [z]; exact ⟨by omega, hb⟩
      · rintro ⟨z1, z2⟩
        by_cases e : i = n
        · exact Or.inr e
        · exact Or.inl ⟨by omega, z2⟩
    · rw [if_neg hb, ih]
      constructor
      · rintro ⟨z1, z2⟩
        exact ⟨by omega, z2⟩
      · rintro ⟨z1, z2⟩
        refine ⟨?_, z2⟩
        by_cases e : i = n
        · rw [e] at z2; exact absurd z2 hb
        · omega
theorem rc_Mb {f t p q j : Nat} (hp : p < 6) : rb_b (rc_M f t p q j) p = true ↔ 1 ≤ q ∧ q ≤ 21 ∧ rb_b (rc_V f t (q - 1)) j = true := by
  unfold rc_M
  by_cases h : 1 ≤ q ∧ q ≤ 21 ∧ rb_b (rc_V f t (q - 1)) j = true
  · rw [if_pos h, rb_oneB (by omega)]
    exact ⟨fun _ => h, fun _ => decide_eq_true rfl⟩
  · rw [if_neg h, rb_0]
    exact ⟨fun z => absurd z (by decide), fun z => absurd z h⟩
theorem rc_gr {f t p q : Nat} (hf : f < 18) (hp : p < 6) (h1 : 1 ≤ q) (h2 : q ≤ 21) : rt_gr (rc_M f t p q) p 18 = rc_V f t (q - 1) := by
  apply rb_ext
  intro i _
  have k : rb_b (rt_gr (rc_M f t p q) p 18) i = true ↔ rb_b (rc_V f t (q - 1)) i = true := by
    rw [rc_grb _ _ 18 (by omega), rc_Mb hp]
    exact ⟨fun z => z.2.2.2, fun z => ⟨rc_V18 hf z, h1, h2, z⟩⟩
  exact Bool.eq_iff_iff.mpr k
theorem rc_gr22 {f t p : Nat} (hp : p < 6) : rt_gr (rc_M f t p 22) p 18 = 0 := by
  apply rb_ext
  intro i _
  rw [rb_0]
  apply rb_nt
  rw [rc_grb _ _ 18 (by omega), rc_Mb hp]
  omega
theorem rc_chg {M M' : Nat → Int32} {d : Nat → Bool} {p : Nat} (hp : p < 6) (h : ∀ g, M' g ^^^ M g = if d g = true then rb_one p else 0) (n : Nat) : rt_chg M M' n = rb_cnt d n := by
  induction n with
  | zero => rfl
  | succ n ih =>
    show rt_chg M M' n + rb_cnt (rb_b (M' n ^^^ M n)) 6 = rb_cnt d n + (d n).toNat
    rw [ih, h n]
    congr 1
    cases d n
    · rw [if_neg (by decide)]
      have e := rb_cnt_cg (P := rb_b 0) (Q := fun _ => false) 6 (fun i _ => rb_0 i)
      rw [e, rb_cnt_false]
      rfl
    · rw [if_pos rfl]
      have e := rb_cnt_cg (P := rb_b (rb_one p)) (Q := fun i => decide (i = p)) 6 (fun i _ => rb_oneB (by omega) i)
      rw [e, rb_cnt_at, if_pos hp]
      rfl
theorem rc_x00 (x : Int32) : x ^^^ x = 0 := rb_ext (fun i _ => by rw [rb_xor, rb_0, Bool.xor_self])
theorem rc_x0 (x : Int32) : x ^^^ 0 = x := rb_ext (fun i _ => by rw [rb_xor, rb_0, Bool.xor_false])
theorem rc_0x (x : Int32) : 0 ^^^ x = x := rb_ext (fun i _ => by rw [rb_xor, rb_0, Bool.false_xor])
theorem rc_Mx (f t p q q' : Nat) (h : 1 ≤ q ∧ q ≤ 21) (h' : 1 ≤ q' ∧ q' ≤ 21) (g : Nat) : rc_M f t p q' g ^^^ rc_M f t p q g = if (rb_b (rc_V f t (q' - 1)) g ^^ rb_b (rc_V f t (q - 1)) g) = true then rb_one p else 0 := by
  have e : ∀ q, 1 ≤ q ∧ q ≤ 21 → rc_M f t p q g = if rb_b (rc_V f t (q - 1)) g = true then rb_one p else 0 := by
    intro q h
    unfold rc_M
    by_cases z : rb_b (rc_V f t (q - 1)) g = true
    · rw [if_pos z, if_pos ⟨h.1, h.2, z⟩]
    · rw [if_neg z, if_neg (fun y => z y.2.2)]
  rw [e q h, e q' h']
  cases rb_b (rc_V f t (q' - 1)) g <;> cases rb_b (rc_V f t (q - 1)) g
  · exact rc_x00 _
  · exact rc_0x _
  · exact rc_x0 _
  · exact rc_x00 _
/-- the masks' change by one link -/
theorem rc_cV {f t k : Nat} {d : Nat → Bool} (hd : ∀ g, d g = (rb_b (rc_V f t k) g ^^ rb_b (rc_V f t (k + 1)) g)) : nI (rb_cnt d 18) = if rc_V f t (k + 1) = rc_V f t k then 0 else 1 := by
  have hl := rc_lt f t (k + 1)
  have hs : ∀ g, rb_b (rc_V f t (k + 1)) g = (rb_b (rc_V f t k) g || decide (g = rc_c f t (k + 1))) := by
    intro g
    show rb_b (rc_V f t k ||| rb_one (rc_c f t (k + 1))) g = _
    rw [rb_or, rb_oneB (by omega)]
  by_cases h : rb_b (rc_V f t k) (rc_c f t (k + 1)) = true
  · have e : rc_V f t (k + 1) = rc_V f t k := by
      apply rb_ext
      intro i _
      rw [hs]
      by_cases z : i = rc_c f t (k + 1)
      · rw [z, h]; rfl
      · rw [decide_eq_false z, Bool.or_false]
    rw [if_pos e]
    have c := rb_cnt_cg (P := d) (Q := fun _ => false) 18 (fun i _ => by rw [hd, e, Bool.xor_self])
    rw [c, rb_cnt_false]
    rfl
  · have e : ¬ rc_V f t (k + 1) = rc_V f t k := by
      intro z
      apply h
      rw [← z, hs, decide_eq_true rfl]
      exact Bool.or_true _
    rw [if_neg e]
    have c := rb_cnt_cg (P := d) (Q := fun i => decide (i = rc_c f t (k + 1))) 18 (fun i _ => by
      rw [hd, hs]
      by_cases z : i = rc_c f t (k + 1)
      · rw [z, rb_nt h, decide_eq_true rfl]; rfl
      · rw [decide_eq_false z, Bool.or_false, Bool.xor_self])
    rw [c, rb_cnt_at, if_pos hl]
    rfl
theorem rc_chf {f t p k : Nat} (hp : p < 6) (hk : k < 20) : nI (rt_chg (rc_M f t p (k + 1)) (rc_M f t p (k + 2)) 18) = if rc_V f t (k + 1) = rc_V f t k then 0 else 1 := by
  rw [rc_chg hp (rc_Mx f t p (k + 1) (k + 2) (by omega) (by omega)) 18]
  exact rc_cV (fun g => Bool.xor_comm _ _)
theorem rc_chb {f t p k : Nat} (hp : p < 6) (hk : k < 20) : nI (rt_chg (rc_M f t p (k + 2)) (rc_M f t p (k + 1)) 18) = if rc_V f t (k + 1) = rc_V f t k then 0 else 1 := by
  rw [rc_chg hp (rc_Mx f t p (k + 2) (k + 1) (by omega) (by omega)) 18]
  exact rc_cV (fun g => rfl)
theorem rc_ch22 {f t p : Nat} (hp : p < 6) : rt_chg (rc_M f t p 21) (rc_M f t p 22) 18 = rb_cnt (rb_b (rc_V f t 20)) 18 := by
  refine rc_chg hp (fun g => ?_) 18
  have e : rc_M f t p 22 g = 0 := if_neg (by omega)
  rw [e, rc_0x]
  unfold rc_M
  by_cases z : rb_b (rc_V f t 20) g = true
  · rw [if_pos z, if_pos ⟨by omega, by omega, z⟩]
  · rw [if_neg z, if_neg (fun y => z y.2.2)]
theorem rc_Mone {f t p q i : Nat} (hf : f < 18) (h1 : 1 ≤ q) (h2 : q ≤ 21) (hi : i + 1 ≤ q) : rc_M f t p q (rc_c f t i) = rb_one p := if_pos ⟨h1, h2, (rc_Vb hf t _ _).mpr ⟨i, by omega, rfl⟩⟩
end
section
/-! the law's own loops -/
/-- the object in this law's history, hi the latest state -/
def rl_st (f t p hi : Nat) (u : St2) : Prop := rt_st (rc_E f p) (rc_N f t) rc_so (rc_pa f t p) (rc_pl f t) (rc_be f t p) rc_af hi u
theorem rl_485 {post : Int32 → St0 → Prop} (hP : post 1 ()) {f t p mc ms kc ks : Nat} (hf : f < 18) (hp : p < 6) {ld lt w : Int32} {a1 a2 a3 a4 a5 a6 a7 a8 a9 a10 a11 : Nat → Int32} (st : rl_st f t p 22 (ld, lt, w, a1, a2, a3, a4, a5, a6, a7, a8, a9, a10, a11)) :
    ∃ n, wL_lawOf_485 post mc ms (nI f) (nI p) (rc_V f t 20) (nI (rc_c f t 20)) kc ks ld lt w a1 a2 a3 a4 a5 a6 a7 a8 a9 a10 a11 n 0 0 := by
  have his : rt_his (rc_E f p) (rc_N f t) (rc_M f t p) rc_so (rc_pa f t p) (rc_pl f t) (rc_be f t p) rc_af := rc_his hf hp
  refine pk_loop (σ := Unit) (fun n i _ => wL_lawOf_485 post mc ms (nI f) (nI p) (rc_V f t 20) (nI (rc_c f t 20)) kc ks ld lt w a1 a2 a3 a4 a5 a6 a7 a8 a9 a10 a11 n (nI (rb_cnt (rb_b (rc_V f t 20)) i)) (nI i)) (fun _ _ => True) 18 0 () (by omega) trivial ?_ ?_
  · intro n _ _
    refine pk_le 18 18 (fun _ => ?_) (fun z => absurd z (by omega))
    refine rt_changed his (q := 21) (q2 := 22) (by omega) (by omega) (by omega) (by omega) (by omega) st (fun u hu => ?_)
    obtain ⟨ld, lt, w, a1, a2, a3, a4, a5, a6, a7, a8, a9, a10, a11⟩ := u
    refine br_t (by rw [rc_ch22 hp]) ?_
    refine rt_sources his (q := 22) (by omega) (by omega) (by omega) (rc_lt f t 20) hu (fun S u hS hu => ?_)
    obtain ⟨ld, lt, w, a1, a2, a3, a4, a5, a6, a7, a8, a9, a10, a11⟩ := u
    have eN : rc_N f t 22 = rc_N f t 21 := rc_Nn (by omega)
    rw [eN] at hS
    refine br_t (rc_src (q := 21) hf (by omega) (by omega) hS) ?_
    refine rt_check_g (q := 14) (by omega) (by omega) hp hf hu (br_t rfl ?_)
    refine rt_nest_b (br_t rfl (rt_rule_b1 (br_t rfl (rt_rule_b3 (br_t rfl ?_)))))
    exact rt_latest hu (br_t rfl hP)
  · intro n i _ hi _ hW
    refine pk_le 18 i (fun z => absurd z (by omega)) (fun _ => nm_r ?_ (nm_r (nI_1 i) (hW () trivial)))
    rw [rb_bit _ (n := i) (by omega), nI_add]
    rfl
theorem rl_431 {post : Int32 → St0 → Prop} (hP : post 1 ()) {f t p mc ms kc ks : Nat} (hf : f < 18) (hp : p < 6) {ld lt w : Int32} {a1 a2 a3 a4 a5 a6 a7 a8 a9 a10 a11 : Nat → Int32} (st : rl_st f t p 21 (ld, lt, w, a1, a2, a3, a4, a5, a6, a7, a8, a9, a10, a11)) (z : Int32) :
    wL_lawOf_431 post mc ms (nI f) (nI p) (rc_V f t 20) (nI (rc_c f t 20)) z z kc ks ld lt w a1 a2 a3 a4 a5 a6 a7 a8 a9 a10 a11 := by
  have his : rt_his (rc_E f p) (rc_N f t) (rc_M f t p) rc_so (rc_pa f t p) (rc_pl f t) (rc_be f t p) rc_af := rc_his hf hp
  refine br_t rfl ?_
  refine rt_enter his (hi := 21) (by omega) hp hf rfl (if_pos (Or.inr rfl)) (if_pos (Or.inr rfl)) (if_pos (Or.inr rfl)) rfl st (fun u hu => ?_)
  obtain ⟨ld, lt, w, a1, a2, a3, a4, a5, a6, a7, a8, a9, a10, a11⟩ := u
  refine br_t rfl ?_
  refine rt_groups his (hi := 22) (q := 22) (by omega) (by omega) (by omega) hp hu (fun u hu => ?_)
  obtain ⟨ld, lt, w, a1, a2, a3, a4, a5, a6, a7, a8, a9, a10, a11⟩ := u
  refine br_t (rc_gr22 hp) ?_
  refine rt_groups his (hi := 22) (q := 21) (by omega) (by omega) (by omega) hp hu (fun u hu => ?_)
  obtain ⟨ld, lt, w, a1, a2, a3, a4, a5, a6, a7, a8, a9, a10, a11⟩ := u
  refine br_t (rc_gr hf hp (by omega) (by omega)) ?_
  exact rl_485 hP hf hp hu
section
variable {J : Int32 → Int32 → Int32 → Int32 → (Nat → Int32) → (Nat → Int32) → (Nat → Int32) → (Nat → Int32) → (Nat → Int32) → (Nat → Int32) → (Nat → Int32) → (Nat → Int32) → (Nat → Int32) → (Nat → Int32) → (Nat → Int32) → Prop} {post : Int32 → St0 → Prop} {f t p mc ms kc ks k : Nat} {x3 x8 x10 : Int32} {ld lt w : Int32} {a1 a2 a3 a4 a5 a6 a7 a8 a9 a10 a11 : Nat → Int32}
theorem rl_288_k (hf : f < 18) (hp : p < 6) (h1 : 14 ≤ k) (h2 : k ≤ 21) (hJ : ∀ ld lt w a1 a2 a3 a4 a5 a6 a7 a8 a9 a10 a11, rl_st f t p 21 (ld, lt, w, a1, a2, a3, a4, a5, a6, a7, a8, a9, a10, a11) → J (nI (k + 1)) ld lt w a1 a2 a3 a4 a5 a6 a7 a8 a9 a10 a11) (st : rl_st f t p 21 (ld, lt, w, a1, a2, a3, a4, a5, a6, a7, a8, a9, a10, a11)) : wL_lawOf_288 post mc ms J x3 (nI f) (nI p) x8 x10 (nI k) 1 kc ks ld lt w a1 a2 a3 a4 a5 a6 a7 a8 a9 a10 a11 := by
  have his : rt_his (rc_E f p) (rc_N f t) (rc_M f t p) rc_so (rc_pa f t p) (rc_pl f t) (rc_be f t p) rc_af := rc_his hf hp
  refine rt_check his (q := k) (by omega) h2 (by omega) hp hf st (fun u hu => ?_)
  obtain ⟨ld, lt, w, a1, a2, a3, a4, a5, a6, a7, a8, a9, a10, a11⟩ := u
  have e : rc_M f t p k f = rb_one p := by
    have h := rc_Mone (t := t) (p := p) (q := k) (i := 0) hf (by omega) h2 (by omega)
    rw [rc_c0 hf] at h
    exact h
  rw [e, rb_bit _ (n := p) (by omega), rb_oneB (by omega), decide_eq_true rfl]
  refine br_t rfl (br_t (by decide) (nm_r (nI_1 k) ?_))
  exact hJ _ _ _ _ _ _ _ _ _ _ _ _ _ _ hu
theorem rl_288_g (hf : f < 18) (hp : p < 6) (h1 : k < 14) (hJ : ∀ ld lt w a1 a2 a3 a4 a5 a6 a7 a8 a9 a10 a11, rl_st f t p 21 (ld, lt, w, a1, a2, a3, a4, a5, a6, a7, a8, a9, a10, a11) → J (nI (k + 1)) ld lt w a1 a2 a3 a4 a5 a6 a7 a8 a9 a10 a11) (st : rl_st f t p 21 (ld, lt, w, a1, a2, a3, a4, a5, a6, a7, a8, a9, a10, a11)) : wL_lawOf_288 post mc ms J x3 (nI f) (nI p) x8 x10 (nI k) (-2) kc ks ld lt w a1 a2 a3 a4 a5 a6 a7 a8 a9 a10 a11 := by
  refine rt_check_g (q := k) (by omega) (by omega) hp hf st (br_t rfl (br_f (by decide) ?_))
  refine rt_members_g (q := k) (g := 0) (by omega) (by omega) (by omega) st (br_t rfl ?_)
  refine rt_groups_g (q := k) (p := 0) (by omega) (by omega) (by omega) st (br_t rfl ?_)
  refine rt_sources_g (q := k) (g := 17) (by omega) (by omega) (by omega) st (br_t rfl ?_)
  refine rt_changed_g1 (q := k) (q2 := 21) (by omega) (by omega) (by omega) st (br_t rfl ?_)
  refine rt_changed_g2 (q := 21) (q2 := k) (by omega) (by omega) (by omega) (by omega) st (br_t rfl (nm_r (nI_1 k) ?_))
  exact hJ _ _ _ _ _ _ _ _ _ _ _ _ _ _ st
theorem rl_288_b (hf : f < 18) (hp : p < 6) (h1 : k = 22) (hJ : ∀ ld lt w a1 a2 a3 a4 a5 a6 a7 a8 a9 a10 a11, rl_st f t p 21 (ld, lt, w, a1, a2, a3, a4, a5, a6, a7, a8, a9, a10, a11) → J (nI (k + 1)) ld lt w a1 a2 a3 a4 a5 a6 a7 a8 a9 a10 a11) (st : rl_st f t p 21 (ld, lt, w, a1, a2, a3, a4, a5, a6, a7, a8, a9, a10, a11)) : wL_lawOf_288 post mc ms J x3 (nI f) (nI p) x8 x10 (nI k) (-1) kc ks ld lt w a1 a2 a3 a4 a5 a6 a7 a8 a9 a10 a11 := by
  refine rt_check_b (q := k) (by omega) (by omega) (by omega) hp hf st (br_t rfl (br_f (by decide) ?_))
  refine rt_members_b (q := k) (g := 0) (by omega) (by omega) (by omega) (by omega) st (br_t rfl ?_)
  refine rt_groups_b (q := k) (p := 0) (by omega) (by omega) (by omega) (by omega) st (br_t rfl ?_)
  refine rt_sources_b (q := k) (g := 17) (by omega) (by omega) (by omega) (by omega) st (br_t rfl ?_)
  refine rt_changed_b1 (q := k) (q2 := 21) (by omega) (by omega) (by omega) st (br_t rfl ?_)
  refine rt_changed_b2 (q := 21) (q2 := k) (by omega) (by omega) (by omega) (by omega) st (br_t rfl (nm_r (nI_1 k) ?_))
  exact hJ _ _ _ _ _ _ _ _ _ _ _ _ _ _ st
end
theorem rl_257 {post : Int32 → St0 → Prop} (hP : post 1 ()) {f t p mc ms kc ks : Nat} (hf : f < 18) (hp : p < 6) (x3 : Int32) : ∀ d k, k + d = 23 → ∀ ld lt w a1 a2 a3 a4 a5 a6 a7 a8 a9 a10 a11, rl_st f t p 21 (ld, lt, w, a1, a2, a3, a4, a5, a6, a7, a8, a9, a10, a11) →
    wL_lawOf_257 post mc ms x3 (nI f) (nI p) (rc_V f t 20) (nI (rc_c f t 20)) kc ks (d + 1) (nI k) ld lt w a1 a2 a3 a4 a5 a6 a7 a8 a9 a10 a11 := by
  have his : rt_his (rc_E f p) (rc_N f t) (rc_M f t p) rc_so (rc_pa f t p) (rc_pl f t) (rc_be f t p) rc_af := rc_his hf hp
  intro d
  induction d with
  | zero =>
    intro k hk ld lt w a1 a2 a3 a4 a5 a6 a7 a8 a9 a10 a11 st
    obtain ⟨o, ho, eo⟩ := pk_andE x3 (m := 31) 5 (by decide)
    have ho : o < 32 := ho
    refine pk_lt 22 k (fun _ => nm_r eo ?_) (fun z => absurd z (by omega))
    by_cases h21 : o ≤ 21
    · have hm : ∀ r, 14 ≤ r → r ≤ 21 → rb_b (rc_M f t p r f) p = true := by
        intro r h1 h2
        refine (rc_Mb hp).mpr ⟨by omega, h2, (rc_Vb hf t _ _).mpr ⟨0, by omega, rc_c0 hf t⟩⟩
      by_cases h14 : 14 ≤ o
      · refine rt_since his (q := o) h21 hp hf o (by rw [if_pos h14]) (hm o h14 h21) st (fun u hu => ?_)
        obtain ⟨ld, lt, w, a1, a2, a3, a4, a5, a6, a7, a8, a9, a10, a11⟩ := u
        exact pk_le o 21 (fun _ => pk_le 14 o (fun _ => rl_431 hP hf hp hu _) (fun z => absurd z (by omega))) (fun z => absurd z (by omega))
      · refine rt_since his (q := o) h21 hp hf 14 (by rw [if_neg h14]) (hm 14 (by omega) (by omega)) st (fun u hu => ?_)
        obtain ⟨ld, lt, w, a1, a2, a3, a4, a5, a6, a7, a8, a9, a10, a11⟩ := u
        exact pk_le o 21 (fun _ => pk_le 14 o (fun z => absurd z h14) (fun _ => rl_431 hP hf hp hu _)) (fun z => absurd z (by omega))
    · refine rt_since_b (hi := 21) (q := o) (by omega) (by omega) (by omega) hp hf st ?_
      exact pk_le o 21 (fun z => absurd z h21) (fun _ => rl_431 hP hf hp st _)
  | succ d ih =>
    intro k hk ld lt w a1 a2 a3 a4 a5 a6 a7 a8 a9 a10 a11 st
    have hJ := ih (k + 1) (by omega)
    refine pk_lt 22 k (fun z => absurd z (by omega)) (fun _ => pk_eq k 22 (fun e => ?_) (fun ne => pk_le 14 k (fun z => ?_) (fun z => ?_)))
    · exact rl_288_b hf hp e hJ st
    · exact rl_288_k hf hp z (by omega) hJ st
    · exact rl_288_g hf hp z hJ st
section
variable {J : Int32 → Int32 → Int32 → Int32 → Int32 → Int32 → Int32 → (Nat → Int32) → (Nat → Int32) → (Nat → Int32) → (Nat → Int32) → (Nat → Int32) → (Nat → Int32) → (Nat → Int32) → (Nat → Int32) → (Nat → Int32) → (Nat → Int32) → (Nat → Int32) → Prop} {post : Int32 → St0 → Prop} {f t p mc ms kc ks k : Nat} {x3 x4 x5 : Int32} {ld lt w : Int32} {a1 a2 a3 a4 a5 a6 a7 a8 a9 a10 a11 : Nat → Int32}
theorem rl_188 (hf : f < 18) (hp : p < 6) (hk : k < 20) (hJ : ∀ ld lt w a1 a2 a3 a4 a5 a6 a7 a8 a9 a10 a11, rl_st f t p (k + 2) (ld, lt, w, a1, a2, a3, a4, a5, a6, a7, a8, a9, a10, a11) → J (rc_V f t (k + 1)) (nI (k + 2)) (nI (rc_c f t (k + 1))) (nI (k + 1)) ld lt w a1 a2 a3 a4 a5 a6 a7 a8 a9 a10 a11) (st : rl_st f t p (k + 2) (ld, lt, w, a1, a2, a3, a4, a5, a6, a7, a8, a9, a10, a11)) (z : Int32) :
    wL_lawOf_188 post mc ms J x3 x4 x5 (nI p) (rc_V f t (k + 1)) (nI (k + 2)) (nI k) (nI (rc_c f t (k + 1))) z z kc ks ld lt w a1 a2 a3 a4 a5 a6 a7 a8 a9 a10 a11 := by
  have his : rt_his (rc_E f p) (rc_N f t) (rc_M f t p) rc_so (rc_pa f t p) (rc_pl f t) (rc_be f t p) rc_af := rc_his hf hp
  refine br_t rfl ?_
  refine rt_sources his (q := k + 2) (by omega) (by omega) (by omega) (rc_lt f t (k + 1)) st (fun S u hS hu => ?_)
  obtain ⟨ld, lt, w, a1, a2, a3, a4, a5, a6, a7, a8, a9, a10, a11⟩ := u
  refine br_t (rc_src (q := k + 2) hf (by omega) (by omega) hS) ?_
  refine rt_members his (q := k + 2) (by omega) (by omega) (by omega) (rc_lt f t (k + 1)) hu (fun u hu => ?_)
  obtain ⟨ld, lt, w, a1, a2, a3, a4, a5, a6, a7, a8, a9, a10, a11⟩ := u
  refine br_t (rc_Mone hf (by omega) (by omega) (by omega)) (nm_r (nI_1 k) ?_)
  exact hJ _ _ _ _ _ _ _ _ _ _ _ _ _ _ hu
theorem rl_162 (hf : f < 18) (hp : p < 6) (hk : k < 20) (hJ : ∀ ld lt w a1 a2 a3 a4 a5 a6 a7 a8 a9 a10 a11, rl_st f t p (k + 2) (ld, lt, w, a1, a2, a3, a4, a5, a6, a7, a8, a9, a10, a11) → J (rc_V f t (k + 1)) (nI (k + 2)) (nI (rc_c f t (k + 1))) (nI (k + 1)) ld lt w a1 a2 a3 a4 a5 a6 a7 a8 a9 a10 a11) (st : rl_st f t p (k + 2) (ld, lt, w, a1, a2, a3, a4, a5, a6, a7, a8, a9, a10, a11)) (z : Int32) :
    wL_lawOf_162 post mc ms J x3 x4 x5 (nI p) (rc_V f t (k + 1)) (nI (k + 2)) (nI k) (nI (rc_c f t (k + 1))) (rc_V f t k) z z kc ks ld lt w a1 a2 a3 a4 a5 a6 a7 a8 a9 a10 a11 := by
  have his : rt_his (rc_E f p) (rc_N f t) (rc_M f t p) rc_so (rc_pa f t p) (rc_pl f t) (rc_be f t p) rc_af := rc_his hf hp
  unfold wL_lawOf_162
  refine br_t rfl ?_
  rw [show nI (k + 2) - 1 = nI (k + 1) from nI_pred (k + 1)]
  refine rt_changed his (q := k + 2) (q2 := k + 1) (by omega) (by omega) (by omega) (by omega) (by omega) st (fun u hu => ?_)
  obtain ⟨ld, lt, w, a1, a2, a3, a4, a5, a6, a7, a8, a9, a10, a11⟩ := u
  rw [rc_chb hp hk]
  refine br_c (fun e => ?_) (fun e => ?_)
  · rw [if_pos e]
    exact rl_188 hf hp hk hJ hu _
  · rw [if_neg e]
    exact rl_188 hf hp hk hJ hu _
end
theorem rl_73 {post : Int32 → St0 → Prop} (hP : post 1 ()) {f t p mc ms kc ks : Nat} (hf : f < 18) (ht : t < 18) (hp : p < 6) (x3 : Int32) : ∀ d k, k + d = 20 → ∀ ld lt w a1 a2 a3 a4 a5 a6 a7 a8 a9 a10 a11, rl_st f t p (k + 1) (ld, lt, w, a1, a2, a3, a4, a5, a6, a7, a8, a9, a10, a11) →
    wL_lawOf_73 post mc ms x3 (nI t) (nI f) (nI p) kc ks (d + 1) (rc_V f t k) (nI (k + 1)) (nI (rc_c f t k)) (nI k) ld lt w a1 a2 a3 a4 a5 a6 a7 a8 a9 a10 a11 := by
  have his : rt_his (rc_E f p) (rc_N f t) (rc_M f t p) rc_so (rc_pa f t p) (rc_pl f t) (rc_be f t p) rc_af := rc_his hf hp
  intro d
  induction d with
  | zero =>
    intro k hk ld lt w a1 a2 a3 a4 a5 a6 a7 a8 a9 a10 a11 st
    obtain rfl : k = 20 := by omega
    refine pk_le 20 20 (fun _ => br_t rfl ?_) (fun z => absurd z (by omega))
    refine rt_latest st (br_t rfl ⟨24, ?_⟩)
    exact rl_257 hP hf hp x3 23 0 rfl _ _ _ _ _ _ _ _ _ _ _ _ _ _ st
  | succ d ih =>
    intro k hk ld lt w a1 a2 a3 a4 a5 a6 a7 a8 a9 a10 a11 st
    have hJ := ih (k + 1) (by omega)
    have hl := rc_lt f t k
    have hn : ¬ (k + 1 + 1 = 1 ∨ k + 1 + 1 = 22) := by omega
    refine pk_le 20 k (fun z => absurd z (by omega)) (fun _ => ⟨by decide, nm_r (e' := nI (rc_c f t (k + 1))) ?_ ?_⟩)
    · rw [nI_add, ← rc_cs]
      exact pk_rem (d := 18) (by omega) (by omega) (by omega)
    · refine rt_nest his (hi := k + 1) (by omega) hl (rc_lt f t (k + 1)) (if_neg hn) (if_neg hn) (if_neg hn) (if_neg hn) (if_neg (by omega)) st (fun u hu => ?_)
      obtain ⟨ld, lt, w, a1, a2, a3, a4, a5, a6, a7, a8, a9, a10, a11⟩ := u
      refine br_t (nI_1 (k + 1)).symm (nm_r (e' := nI (k + 2)) (nI_1 (k + 1)) (nm_r (e' := rc_V f t (k + 1)) rfl ?_))
      refine rt_groups his (hi := k + 2) (q := k + 2) (by omega) (by omega) (by omega) hp hu (fun u hu => ?_)
      obtain ⟨ld, lt, w, a1, a2, a3, a4, a5, a6, a7, a8, a9, a10, a11⟩ := u
      refine br_t (rc_gr hf hp (by omega) (by omega)) ?_
      rw [show nI (k + 2) - 1 = nI (k + 1) from nI_pred (k + 1)]
      refine rt_changed his (hi := k + 2) (q := k + 1) (q2 := k + 2) (by omega) (by omega) (by omega) (by omega) (by omega) hu (fun u hu => ?_)
      obtain ⟨ld, lt, w, a1, a2, a3, a4, a5, a6, a7, a8, a9, a10, a11⟩ := u
      rw [rc_chf hp (by omega)]
      refine br_c (fun e => ?_) (fun e => ?_)
      · rw [if_pos e]
        exact rl_162 hf hp (by omega) hJ hu _
      · rw [if_neg e]
        exact rl_162 hf hp (by omega) hJ hu _
theorem rl_st0 (f t p : Nat) : rl_st f t p 0 (0, 0, 0, (fun _ => 0), (fun _ => 0), (fun _ => 0), (fun _ => 0), (fun _ => 0), (fun _ => 0), (fun _ => 0), (fun _ => 0), (fun _ => 0), (fun _ => 0), (fun _ => 0)) := by
  refine ⟨0, (fun _ => 0), Nat.le_refl 0, by omega, rfl, rfl, ?_, rfl, rfl, fun q h1 h2 => absurd h2 (by omega), rt_ca_0 (fun _ _ => rfl), rfl⟩
  funext j
  exact (if_neg (by omega)).symm
theorem rl_lawOf {post : Int32 → St0 → Prop} (hP : post 1 ()) (p0 p1 p2 p3 : Int32) : wpL_lawOf post 78 1232 () p0 p1 p2 p3 := by
  obtain ⟨b, hb, eb⟩ := pk_andE p1 (m := 255) 8 (by decide)
  obtain ⟨a, ha, ea⟩ := pk_andE p0 (m := 255) 8 (by decide)
  obtain ⟨c, hc, ec⟩ := pk_andE p2 (m := 255) 8 (by decide)
  have hb : b < 256 := hb
  have ha : a < 256 := ha
  have hc : c < 256 := hc
  have hf : a % 18 < 18 := Nat.mod_lt _ (by omega)
  have hp : c % 6 < 6 := Nat.mod_lt _ (by omega)
  have ht : 1 + b % 17 < 18 := by omega
  have e1 : (1 : Int32) + ((p1 &&& 255) - (p1 &&& 255) / 17 * 17) = nI (1 + b % 17) := by
    rw [eb, show nI b - nI b / 17 * 17 = nI (b % 17) from pk_rem (d := 17) (by omega) (by omega) (by omega)]
    exact nI_add 1 (b % 17)
  have e2 : (p0 &&& 255) - (p0 &&& 255) / 18 * 18 = nI (a % 18) := by
    rw [ea]
    exact pk_rem (d := 18) (by omega) (by omega) (by omega)
  have e3 : (p2 &&& 255) - (p2 &&& 255) / 6 * 6 = nI (c % 6) := by
    rw [ec]
    exact pk_rem (d := 6) (by omega) (by omega) (by omega)
  generalize a % 18 = f at hf e2
  generalize c % 6 = p at hp e3
  generalize 1 + b % 17 = t at ht e1
  have his : rt_his (rc_E f p) (rc_N f t) (rc_M f t p) rc_so (rc_pa f t p) (rc_pl f t) (rc_be f t p) rc_af := rc_his hf hp
  refine ⟨by decide, nm_r e1 ⟨by decide, nm_r e2 ⟨by decide, nm_r e3 ⟨by omega, by omega, 11, 133, by omega, by omega, ?_⟩⟩⟩⟩
  refine ⟨by omega, by omega, by omega, by omega, by omega, by omega, by omega, by omega, by omega, by omega, by omega, by omega, by omega, by omega, by omega, by omega, by omega, by omega, by omega, by omega, by omega, by omega, ?_⟩
  refine rt_enter his (hi := 0) (b := 1) (by omega) hp hf rfl (if_pos (Or.inl rfl)) (if_pos (Or.inl rfl)) (if_pos (Or.inl rfl)) rfl (rl_st0 f t p) (fun u hu => ?_)
  obtain ⟨ld, lt, w, a1, a2, a3, a4, a5, a6, a7, a8, a9, a10, a11⟩ := u
  have main := rl_73 hP (mc := 78) (ms := 1232) (kc := 1 + 11) (ks := 14 + 133) hf ht hp p3 20 0 rfl _ _ _ _ _ _ _ _ _ _ _ _ _ _ hu
  rw [rc_c0 hf] at main
  exact br_t rfl (nm_r (e' := rc_V f t 0) rfl ⟨21, main⟩)
theorem rl_cell {post : Int32 → Prop} {L : Nat} {xs : Nat → Int32} (i : Nat) (hL : L ≤ 4) (hi : i < 4) (H : ∀ r, post r) : wpL_cellAt post L xs () (nI i) :=
  pk_le L i (fun _ => H _) (fun z => ⟨pk_in i L z, H _⟩)
end
section
theorem i_vc (xs : Nat → Int32) (L : Nat) (hL : L ≤ 4) : wpL_law (fun r => r = 1) L xs :=
  rl_cell 0 hL (by omega) (fun a => rl_cell 1 hL (by omega) (fun b => rl_cell 2 hL (by omega) (fun c => rl_cell 3 hL (by omega) (fun d => ⟨78, 1232, by omega, by omega, rl_lawOf rfl a b c d⟩))))
end
