section
/-! ===== Int32 by its bits (turned from the family 'Int32 by its bits' of laws/BITS.to-paste) ===== -/
def tw_b (x : Int32) (i : Nat) : Bool := x.toBitVec.getLsbD i
theorem tw_ext {x y : Int32} (h : ∀ i, i < 32 → tw_b x i = tw_b y i) : x = y := Int32.toBitVec_inj.mp (BitVec.eq_of_getLsbD_eq (fun i hi => h i hi))
theorem tw_or (x y : Int32) (i : Nat) : tw_b (x ||| y) i = (tw_b x i || tw_b y i) := by unfold tw_b; rw [Int32.toBitVec_or, BitVec.getLsbD_or]
theorem tw_and (x y : Int32) (i : Nat) : tw_b (x &&& y) i = (tw_b x i && tw_b y i) := by unfold tw_b; rw [Int32.toBitVec_and, BitVec.getLsbD_and]
theorem tw_xor (x y : Int32) (i : Nat) : tw_b (x ^^^ y) i = (tw_b x i ^^ tw_b y i) := by unfold tw_b; rw [Int32.toBitVec_xor, BitVec.getLsbD_xor]
theorem tw_big {x : Int32} {i : Nat} (h : 32 ≤ i) : tw_b x i = false := BitVec.getLsbD_of_ge _ _ h
theorem tw_m1 : ∀ i, i < 32 → tw_b (-1) i = true := by decide +kernel
theorem tw_b0 (i : Nat) : tw_b 0 i = false := BitVec.getLsbD_zero
theorem tw_b1 : ∀ i, i < 32 → tw_b 1 i = decide (i = 0) := by decide +kernel
theorem tw_sl : ∀ n, n < 32 → ((nI n &&& 31).toBitVec.smod 32).toNat = n := by decide +kernel
theorem tw_sshr (n : Nat) (hn : n < 32) (x : Int32) {i : Nat} (hi : i < 32) : tw_b (x >>> (nI n &&& 31)) i = if n + i < 32 then tw_b x (n + i) else tw_b x 31 := by
  unfold tw_b
  rw [Int32.toBitVec_shiftRight]
  show (x.toBitVec.sshiftRight ((nI n &&& 31).toBitVec.smod 32).toNat).getLsbD i = _
  rw [tw_sl n hn, BitVec.getLsbD_sshiftRight, BitVec.msb_eq_getLsbD_last]
  simp [hi]
/-- one bit of a mask -/
def tw_m (n : Nat) : Int32 := (1 : Int32) <<< (nI n &&& 31)
theorem tw_bm : ∀ n, n < 32 → ∀ i, i < 32 → tw_b (tw_m n) i = decide (i = n) := by decide +kernel
theorem tw_bmT {n i : Nat} (hn : n < 32) (hi : i < 32) : tw_b (tw_m n) i = true ↔ i = n := by
  rw [tw_bm n hn i hi]; exact decide_eq_true_iff
theorem tw_orT (x y : Int32) (i : Nat) : tw_b (x ||| y) i = true ↔ tw_b x i = true ∨ tw_b y i = true := by
  rw [tw_or]; exact Bool.or_eq_true_iff
theorem tw_orm {x : Int32} {n i : Nat} (hn : n < 32) (hi : i < 32) : tw_b (x ||| tw_m n) i = true ↔ tw_b x i = true ∨ i = n := by
  rw [tw_orT, tw_bmT hn hi]
/-- a mask with one bit taken away -/
theorem tw_cm {x : Int32} {n i : Nat} (hn : n < 32) (hi : i < 32) : tw_b (x &&& (tw_m n ^^^ (-1))) i = true ↔ tw_b x i = true ∧ i ≠ n := by
  rw [tw_and, tw_xor, tw_m1 i hi, tw_bm n hn i hi]
  by_cases h : i = n
  · subst h; simp
  · simp [h]
/-- the bit that the code reads -/
theorem tw_tv {x : Int32} {n : Nat} (hn : n < 32) : ((x >>> (nI n &&& 31)) &&& 1) = if tw_b x n = true then 1 else 0 := by
  apply tw_ext
  intro i hi
  rw [tw_and, tw_sshr n hn x hi, tw_b1 i hi]
  by_cases h : i = 0
  · subst h
    rw [Nat.add_zero, if_pos hn]
    by_cases g : tw_b x n = true
    · rw [if_pos g, g]; rfl
    · rw [if_neg g, Bool.eq_false_iff.mpr g]; rfl
  · rw [decide_eq_false h, Bool.and_false]
    by_cases g : tw_b x n = true
    · rw [if_pos g, tw_b1 i hi, decide_eq_false h]
    · rw [if_neg g, tw_b0]
theorem tw_t0 {x : Int32} {n : Nat} (hn : n < 32) : ((x >>> (nI n &&& 31)) &&& 1) = 0 ↔ ¬ tw_b x n = true := by
  rw [tw_tv hn]
  by_cases g : tw_b x n = true
  · rw [if_pos g]; exact ⟨fun h => absurd h (by decide), fun h => absurd g h⟩
  · rw [if_neg g]; exact ⟨fun _ => g, fun _ => rfl⟩
theorem tw_t1 {x : Int32} {n : Nat} (hn : n < 32) : ((x >>> (nI n &&& 31)) &&& 1) = 1 ↔ tw_b x n = true := by
  rw [tw_tv hn]
  by_cases g : tw_b x n = true
  · rw [if_pos g]; exact ⟨fun _ => g, fun _ => rfl⟩
  · rw [if_neg g]; exact ⟨fun h => absurd h (by decide), fun h => absurd h g⟩
/-- a branch on a bit -/
theorem tw_br {x : Int32} {n : Nat} {A B : Prop} (hn : n < 32) (f : ¬ tw_b x n = true → A) (g : tw_b x n = true → B) : (((x >>> (nI n &&& 31)) &&& 1) = 0 → A) ∧ (¬ ((x >>> (nI n &&& 31)) &&& 1) = 0 → B) :=
  ⟨fun h => f ((tw_t0 hn).mp h), fun h => g (Classical.byContradiction (fun k => h ((tw_t0 hn).mpr k)))⟩
/-- a char's bits -/
theorem tw_bn (n i : Nat) : tw_b (nI n) i = (decide (i < 32) && n.testBit i) := by
  show (BitVec.ofNat 32 n).getLsbD i = _
  rw [BitVec.getLsbD_ofNat]
theorem tw_ch (x : Int32) {i : Nat} (hi : i < 16) : tw_b ((x.toUInt32 % 65536).toInt32) i = tw_b x i := by
  rw [pk_char, tw_bn, show (65536 : Nat) = 2 ^ 16 by decide, Nat.testBit_mod_two_pow]
  have h : i < 32 := by omega
  simp only [h, hi, decide_true, Bool.true_and]
  rfl
/-- no opposites -/
theorem tw_b5 : ∀ i, i < 32 → tw_b 21845 i = decide (i % 2 = 0 ∧ i < 16) := by decide +kernel
theorem tw_con (x : Int32) : ((x &&& (x >>> ((1 : Int32) &&& 31))) &&& 21845) = 0 ↔ ∀ j, j < 8 → ¬ (tw_b x (2 * j) = true ∧ tw_b x (2 * j + 1) = true) := by
  have s : ∀ i, i < 31 → tw_b (x >>> ((1 : Int32) &&& 31)) i = tw_b x (i + 1) := by
    intro i hi
    have h := tw_sshr 1 (by omega) x (i := i) (by omega)
    rw [if_pos (by omega), Nat.add_comm] at h
    exact h
  constructor
  · intro h j hj
    have e : tw_b ((x &&& (x >>> ((1 : Int32) &&& 31))) &&& 21845) (2 * j) = tw_b 0 (2 * j) := by rw [h]
    rw [tw_and, tw_and, s _ (by omega), tw_b5 _ (by omega), decide_eq_true (by omega), tw_b0, Bool.and_true] at e
    rintro ⟨h1, h2⟩
    rw [h1, h2] at e
    exact absurd e (by decide)
  · intro h
    apply tw_ext
    intro i hi
    rw [tw_and, tw_b0, tw_b5 i hi]
    by_cases g : i % 2 = 0 ∧ i < 16
    · rw [tw_and, s i (by omega), decide_eq_true g, Bool.and_true]
      have k := h (i / 2) (by omega)
      rw [show 2 * (i / 2) = i by omega] at k
      cases e1 : tw_b x i
      · rfl
      · cases e2 : tw_b x (i + 1)
        · rfl
        · exact absurd ⟨e1, e2⟩ k
    · rw [decide_eq_false g, Bool.and_false]
/-! ===== small facts on counters ===== -/
theorem tw_s1 : ∀ j, j < 8 → (1 : Int32) <<< ((2 * nI j) &&& 31) = tw_m (2 * j) := by decide +kernel
theorem tw_s2 : ∀ j, j < 8 → (2 : Int32) <<< ((2 * nI j) &&& 31) = tw_m (2 * j + 1) := by decide +kernel
theorem tw_2j : ∀ j, j < 8 → 2 * nI j = nI (2 * j) := by decide +kernel
theorem tw_2j1 : ∀ j, j < 8 → 2 * nI j + 1 = nI (2 * j + 1) := by decide +kernel
theorem tw_2jk : ∀ j, j < 8 → ∀ k, k < 2 → 2 * nI j + nI k = nI (2 * j + k) := by decide +kernel
theorem tw_2jm : ∀ j, j < 8 → ∀ k, k < 2 → 2 * nI j + 1 - nI k = nI (2 * j + 1 - k) := by decide +kernel
theorem tw_1k : ∀ k, k < 2 → (1 : Int32) - nI k = nI (1 - k) := by decide +kernel
theorem tw_hf : ∀ c, c < 16 → nI c >>> ((1 : Int32) &&& 31) = nI (c / 2) := by decide +kernel
theorem tw_lo : ∀ c, c < 16 → nI c &&& 1 = nI (c % 2) := by decide +kernel
end
section
/-! ===== choices, what they imply, sets of choices: no program in sight ===== -/
def tw_o (c : Nat) : Nat := c + 1 - 2 * (c % 2)
theorem tw_oo (c : Nat) : tw_o (tw_o c) = c := by unfold tw_o; omega
theorem tw_o2 (c : Nat) : tw_o c / 2 = c / 2 := by unfold tw_o; omega
theorem tw_o16 {c : Nat} (h : c < 16) : tw_o c < 16 := by unfold tw_o; omega
theorem tw_one (c : Nat) : tw_o c ≠ c := by unfold tw_o; omega
theorem tw_oe (j : Nat) : tw_o (2 * j) = 2 * j + 1 := by unfold tw_o; omega
theorem tw_od (j : Nat) : tw_o (2 * j + 1) = 2 * j := by unfold tw_o; omega
theorem tw_x1 : ∀ c, c < 16 → nI c ^^^ 1 = nI (tw_o c) := by decide +kernel
/-- reached by chains -/
def tw_rc (E : Nat → Nat → Prop) (c d : Nat) : Prop := ∀ S : Nat → Prop, (∀ x y, S x → E x y → S y) → S c → S d
theorem tw_rf {E : Nat → Nat → Prop} (c : Nat) : tw_rc E c c := fun _ _ h => h
theorem tw_re {E : Nat → Nat → Prop} {c d : Nat} (h : E c d) : tw_rc E c d := fun _ k s => k c d s h
theorem tw_rt {E : Nat → Nat → Prop} {c d e : Nat} (h : tw_rc E c d) (g : tw_rc E d e) : tw_rc E c e := fun S k s => g S k (h S k s)
/-- what holds of present choices p and edges E -/
def tw_hy (p : Nat → Prop) (E : Nat → Nat → Prop) : Prop := (∀ c, p c → c < 16) ∧ (∀ c, p c → p (tw_o c)) ∧ (∀ c d, E c d → p d) ∧ (∀ c d, E c d → E (tw_o d) (tw_o c))
theorem tw_rs {p : Nat → Prop} {E : Nat → Nat → Prop} (h : tw_hy p E) {c d : Nat} (r : tw_rc E c d) : tw_rc E (tw_o d) (tw_o c) := by
  intro S k s
  apply Classical.byContradiction
  intro n
  have t := r (fun x => ¬ S (tw_o x)) (fun x y hx e hy => hx (k _ _ hy (h.2.2.2 x y e))) n
  exact t s
theorem tw_rp {p : Nat → Prop} {E : Nat → Nat → Prop} (h : tw_hy p E) {c d : Nat} (hc : p c) (r : tw_rc E c d) : p d := r p (fun x y _ e => h.2.2.1 x y e) hc
def tw_cl (p : Nat → Prop) (E : Nat → Nat → Prop) (S : Nat → Prop) (d : Nat) : Prop := ∃ c, S c ∧ p c ∧ tw_rc E c d
/-- all that a set implies holds no opposites -/
def tw_ps (p : Nat → Prop) (E : Nat → Nat → Prop) (S : Nat → Prop) : Prop := ∀ d, ¬ (tw_cl p E S d ∧ tw_cl p E S (tw_o d))
theorem tw_cle {p : Nat → Prop} {E : Nat → Nat → Prop} {S S' : Nat → Prop} (h : ∀ c, p c → S c → S' c) {d : Nat} (k : tw_cl p E S d) : tw_cl p E S' d := by
  obtain ⟨c, h1, h2, h3⟩ := k
  exact ⟨c, h c h2 h1, h2, h3⟩
theorem tw_psm {p : Nat → Prop} {E : Nat → Nat → Prop} {S S' : Nat → Prop} (h : ∀ c, p c → S c → S' c) (k : tw_ps p E S') : tw_ps p E S :=
  fun d t => k d ⟨tw_cle h t.1, tw_cle h t.2⟩
theorem tw_psc {p : Nat → Prop} {E : Nat → Nat → Prop} {S S' : Nat → Prop} (h : ∀ c, p c → (S c ↔ S' c)) : tw_ps p E S ↔ tw_ps p E S' :=
  ⟨tw_psm (fun c hc => (h c hc).mpr), tw_psm (fun c hc => (h c hc).mp)⟩
/-- a set and one choice more, if the set implies neither it nor its opposite -/
theorem tw_add {p : Nat → Prop} {E : Nat → Nat → Prop} (H : tw_hy p E) {S : Nat → Prop} {x : Nat} (hS : tw_ps p E S) (hx : tw_ps p E (fun e => e = x)) (hn : ¬ tw_cl p E S (tw_o x)) : tw_ps p E (fun e => S e ∨ e = x) := by
  have key : ∀ d, tw_cl p E S d → tw_rc E x (tw_o d) → False := by
    intro d hd r
    obtain ⟨c, h1, h2, h3⟩ := hd
    have r' := tw_rs H r
    rw [tw_oo] at r'
    exact hn ⟨c, h1, h2, tw_rt h3 r'⟩
  rintro d ⟨⟨c, h1, h2, h3⟩, ⟨c', k1, k2, k3⟩⟩
  rcases h1 with h1 | h1
  · rcases k1 with k1 | k1
    · exact hS d ⟨⟨c, h1, h2, h3⟩, ⟨c', k1, k2, k3⟩⟩
    · subst k1
      exact key d ⟨c, h1, h2, h3⟩ k3
  · rcases k1 with k1 | k1
    · subst h1
      refine key (tw_o d) ⟨c', k1, k2, k3⟩ ?_
      rw [tw_oo]
      exact h3
    · exact hx d ⟨⟨c, h1, h2, h3⟩, ⟨c', k1, k2, k3⟩⟩
/-- a set and one choice more that it implies already -/
theorem tw_addc {p : Nat → Prop} {E : Nat → Nat → Prop} {S : Nat → Prop} {x : Nat} (hS : tw_ps p E S) (hx : tw_cl p E S x) : tw_ps p E (fun e => S e ∨ e = x) := by
  have g : ∀ d, tw_cl p E (fun e => S e ∨ e = x) d → tw_cl p E S d := by
    rintro d ⟨c, h1, h2, h3⟩
    rcases h1 with h1 | h1
    · exact ⟨c, h1, h2, h3⟩
    · subst h1
      obtain ⟨c', k1, k2, k3⟩ := hx
      exact ⟨c', k1, k2, tw_rt k3 h3⟩
  exact fun d t => hS d ⟨g _ t.1, g _ t.2⟩
/-- the greedy step -/
theorem tw_gr {p : Nat → Prop} {E : Nat → Nat → Prop} (H : tw_hy p E) {S : Nat → Prop} {c : Nat} (hS : tw_ps p E S) (hc : tw_ps p E (fun e => e = c) ∨ tw_ps p E (fun e => e = tw_o c)) (hn : ¬ tw_ps p E (fun e => S e ∨ e = c)) : tw_ps p E (fun e => S e ∨ e = tw_o c) := by
  by_cases h1 : tw_cl p E S (tw_o c)
  · exact tw_addc hS h1
  · by_cases h2 : tw_cl p E S c
    · exact absurd (tw_addc hS h2) hn
    · rcases hc with hc | hc
      · exact absurd (tw_add H hS hc h1) hn
      · exact tw_add H hS hc (by rw [tw_oo]; exact h2)
/-- a plan: one choice for every job, and all that it implies -/
def tw_pl (p : Nat → Prop) (E : Nat → Nat → Prop) (T : Nat → Prop) : Prop := (∀ c, p c → T c ∨ T (tw_o c)) ∧ (∀ c, ¬ (T c ∧ T (tw_o c))) ∧ (∀ c d, T c → E c d → T d)
theorem tw_plps {p : Nat → Prop} {E : Nat → Nat → Prop} {T S : Nat → Prop} (h : tw_pl p E T) (k : ∀ c, S c → T c) : tw_ps p E S := by
  have g : ∀ d, tw_cl p E S d → T d := by
    rintro d ⟨c, h1, h2, h3⟩
    exact h3 T h.2.2 (k c h1)
  exact fun d t => h.2.1 d ⟨g _ t.1, g _ t.2⟩
theorem tw_plsv {p : Nat → Prop} {E : Nat → Nat → Prop} {T : Nat → Prop} (h : tw_pl p E T) {c : Nat} (hc : p c) : tw_ps p E (fun e => e = c) ∨ tw_ps p E (fun e => e = tw_o c) := by
  rcases h.1 c hc with t | t
  · exact Or.inl (tw_plps h (fun e he => by rw [he]; exact t))
  · exact Or.inr (tw_plps h (fun e he => by rw [he]; exact t))
/-- a full set without opposites among what it implies is a plan -/
theorem tw_pspl {p : Nat → Prop} {E : Nat → Nat → Prop} (H : tw_hy p E) {S : Nat → Prop} (hp : tw_ps p E S) (hf : ∀ c, p c → S c ∨ S (tw_o c)) : tw_pl p E (fun c => p c ∧ S c) := by
  refine ⟨fun c hc => ?_, fun c t => ?_, fun c d t e => ?_⟩
  · rcases hf c hc with h | h
    · exact Or.inl ⟨hc, h⟩
    · exact Or.inr ⟨H.2.1 c hc, h⟩
  · exact hp c ⟨⟨c, t.1.2, t.1.1, tw_rf c⟩, ⟨tw_o c, t.2.2, t.2.1, tw_rf _⟩⟩
  · have hd := H.2.2.1 c d e
    refine ⟨hd, ?_⟩
    rcases hf d hd with h | h
    · exact h
    · exact absurd ⟨⟨c, t.2, t.1, tw_re e⟩, ⟨tw_o d, h, H.2.1 d hd, tw_rf _⟩⟩ (hp d)
/-- fewer choices and fewer edges: still a plan -/
theorem tw_plm {p p' : Nat → Prop} {E E' : Nat → Nat → Prop} {T : Nat → Prop} (h : tw_pl p E T) (hp : ∀ c, p' c → p c) (ho : ∀ c, p' c → p' (tw_o c)) (he : ∀ c d, p' c → E' c d → p' d ∧ E c d) : tw_pl p' E' (fun c => p' c ∧ T c) := by
  refine ⟨fun c hc => ?_, fun c t => h.2.1 c ⟨t.1.2, t.2.2⟩, fun c d t e => ?_⟩
  · rcases h.1 c (hp c hc) with k | k
    · exact Or.inl ⟨hc, k⟩
    · exact Or.inr ⟨ho c hc, k⟩
  · obtain ⟨k1, k2⟩ := he c d t.1 e
    exact ⟨k1, h.2.2 c d t.2 k2⟩
/-! ===== closing a relation by way of each choice in turn ===== -/
theorem tw_war {R R' : Nat → Nat → Prop} {m : Nat} (hR : ∀ c d, c < 16 → d < 16 → (R' c d ↔ R c d ∨ (R c m ∧ R m d))) (hm : m < 16) (h : ∀ k, k < m → ∀ c d, c < 16 → d < 16 → R c k → R k d → R c d) : ∀ k, k < m + 1 → ∀ c d, c < 16 → d < 16 → R' c k → R' k d → R' c d := by
  intro k hk c d hc hd h1 h2
  have hk' : k < 16 := by omega
  rw [hR c d hc hd]
  rw [hR c k hc hk'] at h1
  rw [hR k d hk' hd] at h2
  by_cases e : k = m
  · subst e
    have h1' : R c k := by
      rcases h1 with h1 | h1
      · exact h1
      · exact h1.1
    have h2' : R k d := by
      rcases h2 with h2 | h2
      · exact h2
      · exact h2.2
    exact Or.inr ⟨h1', h2'⟩
  · have lt : k < m := by omega
    rcases h1 with h1 | ⟨h1, h1'⟩
    · rcases h2 with h2 | ⟨h2, h2'⟩
      · exact Or.inl (h k lt c d hc hd h1 h2)
      · exact Or.inr ⟨h k lt c m hc hm h1 h2, h2'⟩
    · rcases h2 with h2 | ⟨h2, h2'⟩
      · exact Or.inr ⟨h1, h k lt m d hm hd h1' h2⟩
      · exact Or.inr ⟨h1, h2'⟩
theorem tw_clo {p : Nat → Prop} {E : Nat → Nat → Prop} (H : tw_hy p E) (hE : ∀ c d, E c d → p c) {R : Nat → Nat → Prop} (hb : ∀ c d, c < 16 → d < 16 → p c → (d = c ∨ E c d) → R c d) (ht : ∀ k, k < 16 → ∀ c d, c < 16 → d < 16 → R c k → R k d → R c d) {c d : Nat} (hc : p c) (r : tw_rc E c d) : R c d := by
  have h16 := H.1 c hc
  have t := r (fun x => x < 16 ∧ R c x) (fun x y hx e => ?_) ⟨h16, hb c c h16 h16 hc (Or.inl rfl)⟩
  · exact t.2
  · have hy := H.1 y (H.2.2.1 x y e)
    exact ⟨hy, ht x hx.1 c y h16 hy hx.2 (hb x y hx.1 hy (hE x y e) (Or.inr e))⟩
end
section
/-! ===== the desk's picture: present choices, edges, possible sets, the first plan ===== -/
def tw_p (P : Int32) (c : Nat) : Prop := c < 16 ∧ tw_b P (c / 2) = true
def tw_col (a b : Int32) : Prop := a &&& 3 = b &&& 3 ∧ ¬ ((b >>> ((2 : Int32) &&& 31)) &&& 31) + (b >>> ((7 : Int32) &&& 31)) ≤ ((a >>> ((2 : Int32) &&& 31)) &&& 31) ∧ ¬ ((a >>> ((2 : Int32) &&& 31)) &&& 31) + (a >>> ((7 : Int32) &&& 31)) ≤ ((b >>> ((2 : Int32) &&& 31)) &&& 31)
theorem tw_cols {a b : Int32} (h : tw_col a b) : tw_col b a := ⟨h.1.symm, h.2.2, h.2.1⟩
def tw_E (P N W : Int32) (a : Nat → Int32) (c d : Nat) : Prop := tw_p P c ∧ tw_p P d ∧ ((d / 2 ≠ c / 2 ∧ tw_col (a c) (a (tw_o d))) ∨ (d = tw_o c ∧ tw_b N (c / 2) = true ∧ ¬ tw_b W (c / 2) = decide (c % 2 = 1)))
theorem tw_po {P : Int32} {c : Nat} (h : tw_p P c) : tw_p P (tw_o c) := ⟨tw_o16 h.1, by rw [tw_o2]; exact h.2⟩
theorem tw_hE (P N W : Int32) (a : Nat → Int32) : tw_hy (tw_p P) (tw_E P N W a) := by
  refine ⟨fun c h => h.1, fun c h => tw_po h, fun c d h => h.2.1, fun c d h => ⟨tw_po h.2.1, tw_po h.1, ?_⟩⟩
  rcases h.2.2 with ⟨h1, h2⟩ | ⟨h1, h2, h3⟩
  · exact Or.inl ⟨by rw [tw_o2, tw_o2]; exact fun z => h1 z.symm, by rw [tw_oo]; exact tw_cols h2⟩
  · subst h1
    rw [tw_oo]
    exact Or.inr ⟨rfl, h2, h3⟩
def tw_q (P N W : Int32) (a : Nat → Int32) (x : Int32) : Prop := tw_ps (tw_p P) (tw_E P N W a) (fun c => tw_b x c = true)
section
variable {P N W : Int32} {a : Nat → Int32}
theorem tw_qm {n : Nat} (hn : n < 16) : tw_q P N W a (tw_m n) ↔ tw_ps (tw_p P) (tw_E P N W a) (fun e => e = n) :=
  tw_psc (fun c hc => tw_bmT (by omega) (by have := hc.1; omega))
theorem tw_qo {x : Int32} {n : Nat} (hn : n < 16) : tw_q P N W a (x ||| tw_m n) ↔ tw_ps (tw_p P) (tw_E P N W a) (fun e => tw_b x e = true ∨ e = n) :=
  tw_psc (fun c hc => tw_orm (by omega) (by have := hc.1; omega))
end
/-- the first plan, job by job -/
noncomputable def tw_F (P : Int32) (q : Int32 → Prop) : Nat → Int32
  | 0 => 0
  | j + 1 => if tw_b P j = true then (@ite Int32 (q (tw_F P q j ||| tw_m (2 * j))) (Classical.propDecidable _) (tw_F P q j ||| tw_m (2 * j)) (tw_F P q j ||| tw_m (2 * j + 1))) else tw_F P q j
theorem tw_F1 {P : Int32} {q : Int32 → Prop} {j : Nat} (h : tw_b P j = true) (k : q (tw_F P q j ||| tw_m (2 * j))) : tw_F P q (j + 1) = tw_F P q j ||| tw_m (2 * j) := by
  rw [tw_F, if_pos h, if_pos k]
theorem tw_F2 {P : Int32} {q : Int32 → Prop} {j : Nat} (h : tw_b P j = true) (k : ¬ q (tw_F P q j ||| tw_m (2 * j))) : tw_F P q (j + 1) = tw_F P q j ||| tw_m (2 * j + 1) := by
  rw [tw_F, if_pos h, if_neg k]
theorem tw_F3 {P : Int32} {q : Int32 → Prop} {j : Nat} (h : ¬ tw_b P j = true) : tw_F P q (j + 1) = tw_F P q j := by
  rw [tw_F, if_neg h]
def tw_sv (P N W : Int32) (a : Nat → Int32) : Prop := ∀ j, j < 8 → tw_b P j = true → tw_q P N W a (tw_m (2 * j)) ∨ tw_q P N W a (tw_m (2 * j + 1))
def tw_S (P N W : Int32) (a : Nat → Int32) : Prop := ∃ T, tw_pl (tw_p P) (tw_E P N W a) T
section
variable {P N W : Int32} {a : Nat → Int32}
theorem tw_pj {j k : Nat} (hj : j < 8) (hk : k < 2) (h : tw_b P j = true) : tw_p P (2 * j + k) :=
  ⟨by omega, by rw [show (2 * j + k) / 2 = j by omega]; exact h⟩
theorem tw_Ssv (h : tw_S P N W a) : tw_sv P N W a := by
  intro j hj hp
  obtain ⟨T, hT⟩ := h
  have k := tw_plsv hT (c := 2 * j) (tw_pj (k := 0) hj (by omega) hp)
  rw [tw_oe] at k
  rw [tw_qm (by omega), tw_qm (by omega)]
  exact k
theorem tw_good (h : tw_sv P N W a) : ∀ j, j ≤ 8 → tw_q P N W a (tw_F P (tw_q P N W a) j) ∧ ∀ i, i < j → tw_b P i = true → tw_b (tw_F P (tw_q P N W a) j) (2 * i) = true ∨ tw_b (tw_F P (tw_q P N W a) j) (2 * i + 1) = true
  | 0, _ => by
    refine ⟨?_, fun i hi => absurd hi (by omega)⟩
    rintro d ⟨⟨c, h1, _⟩, _⟩
    have h1 : tw_b 0 c = true := h1
    rw [tw_b0] at h1
    exact absurd h1 (by decide)
  | j + 1, hj => by
    obtain ⟨ih1, ih2⟩ := tw_good h j (by omega)
    by_cases hp : tw_b P j = true
    · by_cases hq : tw_q P N W a (tw_F P (tw_q P N W a) j ||| tw_m (2 * j))
      · rw [tw_F1 hp hq]
        refine ⟨hq, fun i hi hpi => ?_⟩
        rw [tw_orm (by omega) (by omega), tw_orm (by omega) (by omega)]
        by_cases e : i = j
        · subst e
          exact Or.inl (Or.inr rfl)
        · rcases ih2 i (by omega) hpi with t | t
          · exact Or.inl (Or.inl t)
          · exact Or.inr (Or.inl t)
      · rw [tw_F2 hp hq]
        refine ⟨?_, fun i hi hpi => ?_⟩
        · have s := h j (by omega) hp
          rw [tw_qm (by omega), tw_qm (by omega)] at s
          rw [tw_qo (by omega)] at hq
          rw [tw_qo (by omega), ← tw_oe]
          rw [← tw_oe] at s
          exact tw_gr (tw_hE P N W a) ih1 s hq
        · rw [tw_orm (by omega) (by omega), tw_orm (by omega) (by omega)]
          by_cases e : i = j
          · subst e
            exact Or.inr (Or.inr rfl)
          · rcases ih2 i (by omega) hpi with t | t
            · exact Or.inl (Or.inl t)
            · exact Or.inr (Or.inl t)
    · rw [tw_F3 hp]
      refine ⟨ih1, fun i hi hpi => ?_⟩
      by_cases e : i = j
      · subst e
        exact absurd hpi hp
      · exact ih2 i (by omega) hpi
theorem tw_FT (h : tw_sv P N W a) : tw_pl (tw_p P) (tw_E P N W a) (fun c => tw_p P c ∧ tw_b (tw_F P (tw_q P N W a) 8) c = true) := by
  obtain ⟨g1, g2⟩ := tw_good h 8 (by omega)
  refine tw_pspl (tw_hE P N W a) g1 (fun c hc => ?_)
  have t := g2 (c / 2) (by have := hc.1; omega) hc.2
  by_cases e : c % 2 = 0
  · rw [show 2 * (c / 2) = c by omega, show c + 1 = tw_o c by unfold tw_o; omega] at t
    exact t
  · rw [show 2 * (c / 2) + 1 = c by omega, show 2 * (c / 2) = tw_o c by unfold tw_o; omega] at t
    exact t.symm
theorem tw_svS (h : tw_sv P N W a) : tw_S P N W a := ⟨_, tw_FT h⟩
/-- the planned way of job j -/
noncomputable def tw_w (P N W : Int32) (a : Nat → Int32) (j : Nat) : Nat := if tw_b (tw_F P (tw_q P N W a) 8) (2 * j + 1) = true then 1 else 0
theorem tw_w2 (j : Nat) : tw_w P N W a j < 2 := by
  unfold tw_w
  by_cases h : tw_b (tw_F P (tw_q P N W a) 8) (2 * j + 1) = true
  · rw [if_pos h]; omega
  · rw [if_neg h]; omega
theorem tw_wT (h : tw_sv P N W a) {j : Nat} (hj : j < 8) (hp : tw_b P j = true) : tw_p P (2 * j + tw_w P N W a j) ∧ tw_b (tw_F P (tw_q P N W a) 8) (2 * j + tw_w P N W a j) = true := by
  refine ⟨tw_pj hj (tw_w2 j) hp, ?_⟩
  unfold tw_w
  by_cases k : tw_b (tw_F P (tw_q P N W a) 8) (2 * j + 1) = true
  · rw [if_pos k]; exact k
  · rw [if_neg k]
    rcases (tw_good h 8 (by omega)).2 j hj hp with t | t
    · exact t
    · exact absurd t k
/-- the plan's ways don't collide -/
theorem tw_nocol (h : tw_sv P N W a) {i j : Nat} (hij : i ≠ j) (hi : i < 8) (hj : j < 8) (pi : tw_b P i = true) (pj : tw_b P j = true) : ¬ tw_col (a (2 * j + tw_w P N W a j)) (a (2 * i + tw_w P N W a i)) := by
  intro hc
  have t := tw_FT h
  have ti := tw_wT h hi pi
  have tj := tw_wT h hj pj
  have wi := tw_w2 (P := P) (N := N) (W := W) (a := a) i
  have wj := tw_w2 (P := P) (N := N) (W := W) (a := a) j
  refine t.2.1 (2 * i + tw_w P N W a i) ⟨ti, t.2.2 _ _ tj ⟨tj.1, tw_po ti.1, Or.inl ⟨?_, ?_⟩⟩⟩
  · rw [tw_o2]; omega
  · rw [tw_oo]; exact hc
/-- what is forced is planned -/
theorem tw_wf1 (h : tw_sv P N W a) {j : Nat} (hj : j < 8) (hp : tw_b P j = true) (k : ¬ tw_q P N W a (tw_m (2 * j))) : tw_w P N W a j = 1 := by
  have wj := tw_w2 (P := P) (N := N) (W := W) (a := a) j
  by_cases e : tw_w P N W a j = 0
  · have t := tw_wT h hj hp
    rw [e] at t
    refine absurd ?_ k
    rw [tw_qm (by omega)]
    exact tw_plps (tw_FT h) (fun c hc => by rw [hc]; exact t)
  · omega
theorem tw_wf0 (h : tw_sv P N W a) {j : Nat} (hj : j < 8) (hp : tw_b P j = true) (k : ¬ tw_q P N W a (tw_m (2 * j + 1))) : tw_w P N W a j = 0 := by
  have wj := tw_w2 (P := P) (N := N) (W := W) (a := a) j
  by_cases e : tw_w P N W a j = 1
  · have t := tw_wT h hj hp
    rw [e] at t
    refine absurd ?_ k
    rw [tw_qm (by omega)]
    exact tw_plps (tw_FT h) (fun c hc => by rw [hc]; exact t)
  · omega
end
/-- fewer jobs, fewer edges -/
theorem tw_Sm {P N W P' N' W' : Int32} {a a' : Nat → Int32} (h : tw_S P N W a) (hp : ∀ j, j < 8 → tw_b P' j = true → tw_b P j = true ∧ (tw_b N' j = true → tw_b N j = true ∧ tw_b W' j = tw_b W j)) (ha : ∀ c, tw_p P' c → a' c = a c) : tw_S P' N' W' a' := by
  obtain ⟨T, hT⟩ := h
  have k : ∀ c, tw_p P' c → tw_p P c := fun c hc => ⟨hc.1, (hp _ (by have := hc.1; omega) hc.2).1⟩
  refine ⟨_, tw_plm hT k (fun c hc => tw_po hc) (fun c d hc e => ⟨e.2.1, k c hc, k d e.2.1, ?_⟩)⟩
  rcases e.2.2 with ⟨h1, h2⟩ | ⟨h1, h2, h3⟩
  · rw [ha c hc, ha _ (tw_po e.2.1)] at h2
    exact Or.inl ⟨h1, h2⟩
  · have t := (hp _ (by have := hc.1; omega) hc.2).2 h2
    rw [t.2] at h3
    exact Or.inr ⟨h1, t.1, h3⟩
/-- what the desk has learnt -/
def tw_R (P N W : Int32) (a b : Nat → Int32) : Prop := ∀ c d, c < 16 → d < 16 → (tw_b (b c) d = true ↔ tw_p P c ∧ tw_rc (tw_E P N W a) c d)
def tw_ok (P N W F : Int32) (a b : Nat → Int32) : Prop := tw_R P N W a b ∧ F = tw_F P (tw_q P N W a) 8
def tw_C (P N W K F : Int32) (a b : Nat → Int32) : Prop := K = 0 ∨ tw_ok P N W F a b
end
section
/-! ===== the class's inner methods ===== -/
section
variable {P N W K F : Int32} {a b : Nat → Int32}
theorem tw_has {post : Int32 → Prop} {j : Nat} (hj : j < 8) (h1 : tw_b P j = true → post 1) (h0 : ¬ tw_b P j = true → post 0) : wpX_has post (P, N, W, K, F, a, b) (nI j) :=
  pk_lt j 0 (fun z => absurd z (by omega)) (fun _ => pk_le 8 j (fun z => absurd z (by omega)) (fun _ => tw_br (by omega) h0 h1))
theorem tw_hasx {post : Int32 → Prop} {j : Nat} {x : Int32} (hx : x = nI j) (hj : j < 8) (h1 : tw_b P j = true → post 1) (h0 : ¬ tw_b P j = true → post 0) : wpX_has post (P, N, W, K, F, a, b) x := by
  subst hx
  exact tw_has hj h1 h0
theorem tw_wcol {post : Int32 → Prop} {x y : Int32} (h1 : tw_col x y → post 1) (h0 : ¬ tw_col x y → post 0) : wpX_collide post () x y :=
  br_c (fun e => br_c (fun g => h0 (fun t => t.2.1 g)) (fun g => br_c (fun k => h0 (fun t => t.2.2 k)) (fun k => h1 ⟨e, g, k⟩))) (fun e => h0 (fun t => e t.1))
theorem tw_lcol {post : Int32 → Prop} {x y : Int32} (h1 : tw_col x y → post 1) (h0 : ¬ tw_col x y → post 0) : wpL_collide post () x y :=
  nm_e (nm_e (br_c (fun e => br_c (fun g => h0 (fun t => t.2.1 g)) (fun g => br_c (fun k => h0 (fun t => t.2.2 k)) (fun k => h1 ⟨e, g, k⟩))) (fun e => h0 (fun t => e t.1))))
/-- a set is possible, by what stands in the table -/
def tw_raw (b : Nat → Int32) (x : Int32) (d : Nat) : Prop := ∃ c, c < 16 ∧ tw_b x c = true ∧ tw_b (b c) d = true
theorem tw_cons {post : Int32 → Prop} {x : Int32} (h1 : (∀ j, j < 8 → ¬ (tw_b x (2 * j) = true ∧ tw_b x (2 * j + 1) = true)) → post 1) (h0 : ¬ (∀ j, j < 8 → ¬ (tw_b x (2 * j) = true ∧ tw_b x (2 * j + 1) = true)) → post 0) : wpX_consistent post () x :=
  ⟨fun e => h1 ((tw_con x).mp e), fun e => h0 (fun t => e ((tw_con x).mpr t))⟩
theorem tw_pos {post : Int32 → Prop} {x : Int32} (h1 : (∀ j, j < 8 → ¬ (tw_raw b x (2 * j) ∧ tw_raw b x (2 * j + 1))) → post 1) (h0 : ¬ (∀ j, j < 8 → ¬ (tw_raw b x (2 * j) ∧ tw_raw b x (2 * j + 1))) → post 0) : wpX_possible post (P, N, W, K, F, a, b) x := by
  refine pk_loop (fun n i s => wX_possible_4 post x P N W K F a b n s (nI i)) (fun i s => ∀ d, tw_b s d = true ↔ ∃ c, c < i ∧ tw_b x c = true ∧ tw_b (b c) d = true) 16 0 0 (by omega) ?_ ?_ ?_
  · intro d
    rw [tw_b0]
    exact ⟨fun h => absurd h (by decide), fun ⟨c, hc, _⟩ => absurd hc (by omega)⟩
  · intro n s h
    refine pk_le 16 16 (fun _ => tw_cons (fun g => ⟨rfl, h1 (fun j hj t => g j hj ⟨(h _).mpr t.1, (h _).mpr t.2⟩)⟩) (fun g => ⟨rfl, h0 (fun t => g (fun j hj k => t j hj ⟨(h _).mp k.1, (h _).mp k.2⟩))⟩)) (fun z => absurd z (by omega))
  · intro n i s hi h hw
    refine pk_le 16 i (fun z => absurd z (by omega)) (fun _ => tw_br (by omega) (fun g => nm_r (nI_1 i) (hw s ?_)) (fun g => ⟨pk_in i 16 hi, nm_r (e' := s ||| b i) (by rw [nI_clamp (by omega)]) (nm_r (nI_1 i) (hw _ ?_))⟩))
    · intro d
      rw [h d]
      constructor
      · rintro ⟨c, k1, k2, k3⟩
        exact ⟨c, by omega, k2, k3⟩
      · rintro ⟨c, k1, k2, k3⟩
        by_cases e : c = i
        · subst e
          exact absurd k2 g
        · exact ⟨c, by omega, k2, k3⟩
    · intro d
      rw [tw_orT, h d]
      constructor
      · rintro (⟨c, k1, k2, k3⟩ | k)
        · exact ⟨c, by omega, k2, k3⟩
        · exact ⟨i, by omega, g, k⟩
      · rintro ⟨c, k1, k2, k3⟩
        by_cases e : c = i
        · subst e
          exact Or.inr k3
        · exact Or.inl ⟨c, by omega, k2, k3⟩
theorem tw_rawc (hb : tw_R P N W a b) {x : Int32} {d : Nat} (hd : d < 16) : tw_raw b x d ↔ tw_cl (tw_p P) (tw_E P N W a) (fun c => tw_b x c = true) d := by
  constructor
  · rintro ⟨c, k1, k2, k3⟩
    have t := (hb c d k1 hd).mp k3
    exact ⟨c, k2, t.1, t.2⟩
  · rintro ⟨c, k1, k2, k3⟩
    exact ⟨c, k2.1, k1, (hb c d k2.1 hd).mpr ⟨k2, k3⟩⟩
theorem tw_rawq (hb : tw_R P N W a b) (x : Int32) : (∀ j, j < 8 → ¬ (tw_raw b x (2 * j) ∧ tw_raw b x (2 * j + 1))) ↔ tw_q P N W a x := by
  constructor
  · rintro h d ⟨h1, h2⟩
    have hd : d < 16 := by
      obtain ⟨c, k1, k2, k3⟩ := h1
      exact (tw_rp (tw_hE P N W a) k2 k3).1
    refine h (d / 2) (by omega) ?_
    rw [tw_rawc hb (by omega), tw_rawc hb (by omega)]
    by_cases e : d % 2 = 0
    · rw [show 2 * (d / 2) = d by omega, show d + 1 = tw_o d by unfold tw_o; omega]
      exact ⟨h1, h2⟩
    · rw [show 2 * (d / 2) + 1 = d by omega, show 2 * (d / 2) = tw_o d by unfold tw_o; omega]
      exact ⟨h2, h1⟩
  · intro h j hj t
    rw [tw_rawc hb (by omega), tw_rawc hb (by omega), ← tw_oe] at t
    exact h _ t
theorem tw_pq {post : Int32 → Prop} {x : Int32} (hb : tw_R P N W a b) (h1 : tw_q P N W a x → post 1) (h0 : ¬ tw_q P N W a x → post 0) : wpX_possible post (P, N, W, K, F, a, b) x :=
  tw_pos (fun h => h1 ((tw_rawq hb x).mp h)) (fun h => h0 (fun t => h ((tw_rawq hb x).mpr t)))
theorem tw_first {post : St1 → Prop} (hb : tw_R P N W a b) (h : post (P, N, W, K, tw_F P (tw_q P N W a) 8, a, b)) : wpX_planFirst post (P, N, W, K, F, a, b) := by
  refine pk_loop (σ := Unit) (fun n i _ => wX_planFirst_4 post P N W K F a b n (tw_F P (tw_q P N W a) i) (nI i)) (fun _ _ => True) 8 0 () (by omega) trivial ?_ ?_
  · intro n _ _
    exact pk_le 8 8 (fun _ => h) (fun z => absurd z (by omega))
  · intro n i _ hi _ hw
    have t : wX_planFirst_4 post P N W K F a b n (tw_F P (tw_q P N W a) (i + 1)) (nI (i + 1)) := hw () trivial
    refine pk_le 8 i (fun z => absurd z (by omega)) (fun _ => tw_has hi (fun g => br_f (by decide) (nm_r (e' := tw_F P (tw_q P N W a) i ||| tw_m (2 * i)) (by rw [tw_s1 i hi]) (tw_pq hb (fun k => br_f (by decide) (nm_r (nI_1 i) ?_)) (fun k => br_t rfl (nm_r (e' := tw_F P (tw_q P N W a) i ||| tw_m (2 * i + 1)) (by rw [tw_s2 i hi]) (nm_r (nI_1 i) ?_)))))) (fun g => br_t rfl (nm_r (nI_1 i) ?_)))
    · rw [tw_F1 g k] at t
      exact t
    · rw [tw_F2 g k] at t
      exact t
    · rw [tw_F3 g] at t
      exact t
/-- what a choice implies at once -/
def tw_D (P : Int32) (a : Nat → Int32) (c i e : Nat) : Prop := tw_o e < i ∧ tw_p P e ∧ e / 2 ≠ c / 2 ∧ tw_col (a c) (a (tw_o e))
theorem tw_D0 {c i e : Nat} (h : ¬ (tw_b P (i / 2) = true ∧ i / 2 ≠ c / 2 ∧ tw_col (a c) (a i))) : tw_D P a c (i + 1) e ↔ tw_D P a c i e := by
  constructor
  · rintro ⟨h1, h2, h3, h4⟩
    refine ⟨?_, h2, h3, h4⟩
    by_cases k : tw_o e = i
    · subst k
      rw [tw_o2] at h
      exact absurd ⟨h2.2, h3, h4⟩ h
    · omega
  · rintro ⟨h1, h2⟩
    exact ⟨by omega, h2⟩
theorem tw_D1 {c i e : Nat} (hi : i < 16) (h : tw_b P (i / 2) = true ∧ i / 2 ≠ c / 2 ∧ tw_col (a c) (a i)) : tw_D P a c (i + 1) e ↔ tw_D P a c i e ∨ e = tw_o i := by
  constructor
  · rintro ⟨h1, h2, h3, h4⟩
    by_cases k : tw_o e = i
    · subst k
      rw [tw_oo]
      exact Or.inr rfl
    · exact Or.inl ⟨by omega, h2, h3, h4⟩
  · rintro (⟨h1, h2⟩ | k)
    · exact ⟨by omega, h2⟩
    · subst k
      unfold tw_D
      rw [tw_oo, tw_o2]
      exact ⟨by omega, ⟨tw_o16 hi, by rw [tw_o2]; exact h.1⟩, h.2.1, h.2.2⟩
theorem tw_wc {c : Nat} (hc : c < 16) : ((W >>> (nI (c / 2) &&& 31)) &&& 1) = nI c &&& 1 ↔ tw_b W (c / 2) = decide (c % 2 = 1) := by
  rw [tw_tv (by omega), tw_lo c hc]
  have h2 : c % 2 = 0 ∨ c % 2 = 1 := by omega
  rcases h2 with e | e
  · rw [e]
    cases tw_b W (c / 2)
    · exact ⟨fun _ => rfl, fun _ => rfl⟩
    · exact ⟨fun h => absurd h (by decide), fun h => absurd h (by decide)⟩
  · rw [e]
    cases tw_b W (c / 2)
    · exact ⟨fun h => absurd h (by decide), fun h => absurd h (by decide)⟩
    · exact ⟨fun _ => rfl, fun _ => rfl⟩
theorem tw_mx {c : Nat} (hc : c < 16) : (1 : Int32) <<< ((nI c ^^^ 1) &&& 31) = tw_m (tw_o c) := by
  rw [tw_x1 c hc]
  rfl
theorem tw_dir {post : Int32 → Prop} {c : Nat} (hc : tw_p P c) (H : ∀ r, (∀ e, e < 16 → (tw_b r e = true ↔ tw_E P N W a c e)) → post r) : wpX_direct post (P, N, W, K, F, a, b) (nI c) := by
  have c16 := hc.1
  have o16 := tw_o16 hc.1
  refine pk_loop (fun n i s => wX_direct_4 post (nI c) P N W K F a b n s (nI i)) (fun i s => ∀ e, e < 16 → (tw_b s e = true ↔ tw_D P a c i e)) 16 0 0 (by omega) ?_ ?_ ?_
  · intro e _
    rw [tw_b0]
    exact ⟨fun h => absurd h (by decide), fun h => absurd h.1 (by omega)⟩
  · intro n s h
    have no : ¬ (tw_b N (c / 2) = true ∧ ¬ tw_b W (c / 2) = decide (c % 2 = 1)) → post s := by
      intro g
      refine H s (fun e he => ?_)
      rw [h e he]
      constructor
      · rintro ⟨k1, k2, k3, k4⟩
        exact ⟨hc, k2, Or.inl ⟨k3, k4⟩⟩
      · rintro ⟨k1, k2, ⟨k3, k4⟩ | k⟩
        · exact ⟨tw_o16 he, k2, k3, k4⟩
        · exact absurd k.2 g
    have yes : (tw_b N (c / 2) = true ∧ ¬ tw_b W (c / 2) = decide (c % 2 = 1)) → post (s ||| tw_m (tw_o c)) := by
      intro g
      refine H _ (fun e he => ?_)
      rw [tw_orm (by omega) (by omega), h e he]
      constructor
      · rintro (⟨k1, k2, k3, k4⟩ | k)
        · exact ⟨hc, k2, Or.inl ⟨k3, k4⟩⟩
        · subst k
          exact ⟨hc, tw_po hc, Or.inr ⟨rfl, g⟩⟩
      · rintro ⟨k1, k2, ⟨k3, k4⟩ | k⟩
        · exact Or.inl ⟨tw_o16 he, k2, k3, k4⟩
        · exact Or.inr k.1
    refine pk_le 16 16 (fun _ => nm_r (tw_hf c c16) (tw_br (by omega) (fun g => br_t rfl (no (fun t => g t.1))) (fun g => br_c (fun k => br_t rfl (no (fun t => t.2 ((tw_wc c16).mp k)))) (fun k => br_f (by decide) ?_)))) (fun z => absurd z (by omega))
    rw [tw_mx c16]
    exact yes ⟨g, fun t => k ((tw_wc c16).mpr t)⟩
  · intro n i s hi h hw
    have nx : ¬ (tw_b P (i / 2) = true ∧ i / 2 ≠ c / 2 ∧ tw_col (a c) (a i)) → wX_direct_4 post (nI c) P N W K F a b n s (nI (i + 1)) := by
      intro g
      refine hw s (fun e he => ?_)
      rw [tw_D0 g]
      exact h e he
    refine pk_le 16 i (fun z => absurd z (by omega)) (fun _ => tw_hasx (tw_hf i hi) (by omega) (fun g => br_f (by decide) (pk_eq (i / 2) (c / 2) (fun k => nm_r (nI_1 i) (nx (fun t => t.2.1 k))) (fun k => ⟨pk_in c 16 c16, pk_in i 16 hi, ?_⟩) (tw_hf i hi) (tw_hf c c16))) (fun g => br_t rfl (nm_r (nI_1 i) (nx (fun t => g t.1)))))
    rw [nI_clamp (by omega), nI_clamp (by omega)]
    refine tw_wcol (fun l => br_f (by decide) (nm_r (e' := s ||| tw_m (tw_o i)) (by rw [tw_mx hi]) (nm_r (nI_1 i) (hw _ (fun e he => ?_))))) (fun l => br_t rfl (nm_r (nI_1 i) (nx (fun t => l t.2.2))))
    have oi := tw_o16 hi
    rw [tw_orm (by omega) (by omega), tw_D1 hi ⟨g, k, l⟩, h e he]
end
end
section
/-! ===== learn and solvable ===== -/
section
variable {P N W K F : Int32} {a b : Nat → Int32}
theorem tw_l67 {post : St1 → Prop} {J : Int32 → (Nat → Int32) → (Nat → Int32) → Prop} {m : Nat} (hm : m < 16) (H : ∀ b', (∀ c d, c < 16 → d < 16 → (tw_b (b' c) d = true ↔ tw_b (b c) d = true ∨ (tw_b (b c) m = true ∧ tw_b (b m) d = true))) → J (nI (m + 1)) a b') : ∃ n, wX_learn_67 post J (nI m) P N W K F n 0 a b := by
  refine pk_loop (fun n i s => wX_learn_67 post J (nI m) P N W K F n (nI i) a s) (fun i s => ∀ c d, c < 16 → d < 16 → (tw_b (s c) d = true ↔ tw_b (b c) d = true ∨ (c < i ∧ tw_b (b c) m = true ∧ tw_b (b m) d = true))) 16 0 b (by omega) ?_ ?_ ?_
  · intro c d _ _
    exact ⟨Or.inl, fun h => h.resolve_right (fun t => absurd t.1 (by omega))⟩
  · intro n s h
    refine pk_le 16 16 (fun _ => nm_r (nI_1 m) (H s (fun c d hc hd => ?_))) (fun z => absurd z (by omega))
    rw [h c d hc hd]
    exact ⟨fun t => t.imp id (fun t => t.2), fun t => t.imp id (fun t => ⟨hc, t⟩)⟩
  · intro n i s hi h hw
    have e1 : tw_b (s i) m = true ↔ tw_b (b i) m = true := by
      rw [h i m hi hm]
      exact ⟨fun t => t.resolve_right (fun t => absurd t.1 (by omega)), Or.inl⟩
    have e2 : ∀ d, d < 16 → (tw_b (s m) d = true ↔ tw_b (b m) d = true) := by
      intro d hd
      rw [h m d hm hd]
      exact ⟨fun t => t.elim id (fun t => t.2.2), Or.inl⟩
    refine pk_le 16 i (fun z => absurd z (by omega)) (fun _ => ⟨pk_in i 16 hi, ?_⟩)
    rw [nI_clamp (show i < 2 ^ 31 by omega), nI_clamp (show m < 2 ^ 31 by omega)]
    refine tw_br (by omega) (fun g => nm_r (nI_1 i) (hw s (fun c d hc hd => ?_))) (fun g => ⟨pk_in i 16 hi, pk_in m 16 hm, pk_in i 16 hi, nm_e (nm_r (nI_1 i) (hw _ (fun c d hc hd => ?_)))⟩)
    · rw [h c d hc hd]
      refine ⟨fun t => t.imp id (fun t => ⟨by omega, t.2⟩), fun t => t.elim Or.inl (fun t => ?_)⟩
      by_cases e : c = i
      · subst e
        exact absurd (e1.mpr t.2.1) g
      · exact Or.inr ⟨by omega, t.2⟩
    · by_cases e : c = i
      · subst e
        rw [pk_us, tw_ch _ hd, tw_orT, e2 d hd, h c d hc hd]
        constructor
        · rintro ((t | t) | t)
          · exact Or.inl t
          · exact Or.inr ⟨by omega, t.2⟩
          · exact Or.inr ⟨by omega, e1.mp g, t⟩
        · rintro (t | t)
          · exact Or.inl (Or.inl t)
          · exact Or.inr t.2.2
      · rw [pk_un e, h c d hc hd]
        exact ⟨fun t => t.imp id (fun t => ⟨by omega, t.2⟩), fun t => t.imp id (fun t => ⟨by omega, t.2⟩)⟩
theorem tw_l59 {post : St1 → Prop} (hb : ∀ c, c < 16 → ∀ d, d < 16 → (tw_b (b c) d = true ↔ tw_p P c ∧ (d = c ∨ tw_E P N W a c d))) (H : ∀ b', tw_R P N W a b' → post (P, N, W, K, tw_F P (tw_q P N W a) 8, a, b')) : ∃ n, wX_learn_59 post P N W K F n 0 a b := by
  refine pk_loop (fun n i s => wX_learn_59 post P N W K F n (nI i) a s) (fun m s => (∀ c d, c < 16 → d < 16 → tw_b (s c) d = true → tw_p P c ∧ tw_rc (tw_E P N W a) c d) ∧ (∀ c d, c < 16 → d < 16 → tw_p P c → (d = c ∨ tw_E P N W a c d) → tw_b (s c) d = true) ∧ (∀ k, k < m → ∀ c d, c < 16 → d < 16 → tw_b (s c) k = true → tw_b (s k) d = true → tw_b (s c) d = true)) 16 0 b (by omega) ?_ ?_ ?_
  · refine ⟨fun c d hc hd t => ?_, fun c d hc hd h1 h2 => (hb c hc d hd).mpr ⟨h1, h2⟩, fun k hk => absurd hk (by omega)⟩
    obtain ⟨k1, k2⟩ := (hb c hc d hd).mp t
    refine ⟨k1, ?_⟩
    rcases k2 with k | k
    · rw [k]; exact tw_rf c
    · exact tw_re k
  · rintro n s ⟨h1, h2, h3⟩
    have hR : tw_R P N W a s := fun c d hc hd => ⟨h1 c d hc hd, fun t => tw_clo (R := fun c d => tw_b (s c) d = true) (tw_hE P N W a) (fun c d e => e.1) h2 h3 t.1 t.2⟩
    exact pk_le 16 16 (fun _ => tw_first hR (H s hR)) (fun z => absurd z (by omega))
  · rintro n m s hm ⟨h1, h2, h3⟩ hw
    refine pk_le 16 m (fun z => absurd z (by omega)) (fun _ => tw_l67 hm (fun b' hb' => hw b' ⟨fun c d hc hd t => ?_, fun c d hc hd k1 k2 => (hb' c d hc hd).mpr (Or.inl (h2 c d hc hd k1 k2)), tw_war (R := fun c d => tw_b (s c) d = true) (R' := fun c d => tw_b (b' c) d = true) hb' hm h3⟩))
    rcases (hb' c d hc hd).mp t with t | t
    · exact h1 c d hc hd t
    · obtain ⟨k1, k2⟩ := h1 c m hc hm t.1
      exact ⟨k1, tw_rt k2 (h1 m d hm hd t.2).2⟩
theorem tw_l15 {post : St1 → Prop} (H : ∀ b', tw_R P N W a b' → post (P, N, W, K, tw_F P (tw_q P N W a) 8, a, b')) : ∃ n, wX_learn_15 post P N W K F n 0 a b := by
  refine pk_loop (fun n i s => wX_learn_15 post P N W K F n (nI i) a s) (fun i s => ∀ c, c < i → ∀ d, d < 16 → (tw_b (s c) d = true ↔ tw_p P c ∧ (d = c ∨ tw_E P N W a c d))) 16 0 b (by omega) (fun c hc => absurd hc (by omega)) ?_ ?_
  · intro n s h
    exact pk_le 16 16 (fun _ => tw_l59 h H) (fun z => absurd z (by omega))
  · intro n i s hi h hw
    refine pk_le 16 i (fun z => absurd z (by omega)) (fun _ => tw_hasx (tw_hf i hi) (by omega) (fun g => br_f (by decide) (tw_dir ⟨hi, g⟩ (fun r hr => ⟨pk_in i 16 hi, nm_r (e' := upd s i (((tw_m i) ||| r).toUInt32 % 65536).toInt32) (by rw [nI_clamp (by omega)]; rfl) (nm_r (nI_1 i) (hw _ (fun c hc d hd => ?_)))⟩))) (fun g => br_t rfl ⟨pk_in i 16 hi, nm_r (e' := upd s i (((0 : Int32).toUInt32 % 65536).toInt32)) (by rw [nI_clamp (by omega)]) (nm_r (nI_1 i) (hw _ (fun c hc d hd => ?_)))⟩))
    · by_cases e : c = i
      · subst e
        rw [pk_us, tw_ch _ hd, tw_orT, tw_bmT (by omega) (by omega), hr d hd]
        exact ⟨fun t => ⟨⟨hi, g⟩, t⟩, fun t => t.2⟩
      · rw [pk_un e]
        exact h c (by omega) d hd
    · by_cases e : c = i
      · subst e
        rw [pk_us, tw_ch _ hd, tw_b0]
        exact ⟨fun t => absurd t (by decide), fun t => absurd t.1.2 g⟩
      · rw [pk_un e]
        exact h c (by omega) d hd
theorem tw_learn {post : St1 → Prop} (hC : tw_C P N W K F a b) (H : ∀ K' F' b', K' ≠ 0 → tw_ok P N W F' a b' → post (P, N, W, K', F', a, b')) : wpX_learn post (P, N, W, K, F, a, b) :=
  br_c (fun _ => tw_l15 (fun b' hb' => H 1 _ b' (by decide) ⟨hb', rfl⟩)) (fun e => H K F b e (hC.resolve_left e))
theorem tw_solv {post : Int32 → St1 → Prop} (hC : tw_C P N W K F a b) (H1 : ∀ K' F' b', tw_ok P N W F' a b' → tw_sv P N W a → post 1 (P, N, W, K', F', a, b')) (H0 : ∀ K' F' b', tw_ok P N W F' a b' → post 0 (P, N, W, K', F', a, b')) : wpX_solvable post (P, N, W, K, F, a, b) := by
  refine tw_learn hC (fun K' F' b' hk ho => ?_)
  refine pk_loop (σ := Unit) (fun n i _ => wX_solvable_6 post P N W K' F' a b' n (nI i)) (fun i _ => ∀ j, j < i → tw_b P j = true → tw_q P N W a (tw_m (2 * j)) ∨ tw_q P N W a (tw_m (2 * j + 1))) 8 0 () (by omega) (fun j hj => absurd hj (by omega)) ?_ ?_
  · intro n _ h
    exact pk_le 8 8 (fun _ => H1 K' F' b' ho h) (fun z => absurd z (by omega))
  · intro n i _ hi h hw
    have nx : (tw_b P i = true → tw_q P N W a (tw_m (2 * i)) ∨ tw_q P N W a (tw_m (2 * i + 1))) → wX_solvable_6 post P N W K' F' a b' n (nI (i + 1)) := by
      intro g
      refine hw () (fun j hj => ?_)
      by_cases e : j = i
      · subst e; exact g
      · exact h j (by omega)
    refine pk_le 8 i (fun z => absurd z (by omega)) (fun _ => tw_has hi (fun g => br_f (by decide) ?_) (fun g => br_t rfl (nm_r (nI_1 i) (nx (fun t => absurd t g)))))
    rw [tw_s1 i hi, tw_s2 i hi]
    exact tw_pq ho.1 (fun k => br_f (by decide) (nm_r (nI_1 i) (nx (fun _ => Or.inl k)))) (fun k => br_t rfl (tw_pq ho.1 (fun l => br_f (by decide) (nm_r (nI_1 i) (nx (fun _ => Or.inr l)))) (fun l => br_t rfl (H0 K' F' b' ho))))
end
end
section
/-! ===== the calls that change the desk: a plan is kept ===== -/
def tw_sh (a : Nat → Int32) : Prop := ∀ c, vp_nar .short (a c) = a c
def tw_J (P N W K F : Int32) (a b : Nat → Int32) : Prop := tw_S P N W a ∧ tw_sh a ∧ tw_C P N W K F a b
theorem tw_shu {a : Nat → Int32} (h : tw_sh a) (k : Nat) (x : Int32) : tw_sh (upd a k x.toInt16.toInt32) := by
  intro c
  by_cases e : c = k
  · subst e
    rw [pk_us]
    exact pk_vs x
  · rw [pk_un e]
    exact h c
theorem tw_shb {a : Nat → Int32} (h : tw_sh a) (k j : Nat) : tw_sh (upd a k (vp_nar .short (a j))) := by
  rw [h j, ← h j, vp_nar_short]
  exact tw_shu h k _
theorem tw_isW {post : Int32 → Prop} {x : Int32} (h1 : post 1) (h0 : post 0) : wpX_isWay post () x :=
  br_c (fun _ => h0) (fun _ => br_c (fun _ => h0) (fun _ => br_c (fun _ => br_c (fun _ => h0) (fun _ => br_c (fun _ => h0) (fun _ => h1))) (fun _ => h0)))
theorem tw_isN {post : Int32 → Prop} {k : Nat} (hk : k < 2) (h : post 1) : wpX_isWayNumber post () (nI k) :=
  pk_eq k 0 (fun _ => h) (fun z => pk_eq k 1 (fun _ => h) (fun z' => absurd hk (by omega)))
theorem tw_lway {post : Int32 → Prop} {x : Int32} (h : ∀ r, post r) : wpL_way post () x :=
  ⟨by decide, nm_e ⟨by decide, nm_e (nm_e (h _))⟩⟩
section
variable {P N W K F : Int32} {a b : Nat → Int32}
theorem tw_place {post : St1 → Prop} {j : Nat} {x y : Int32} (hj : j < 8) (h : post (P ||| tw_m j, N &&& (tw_m j ^^^ (-1)), W, 0, F, upd (upd a (2 * j) x.toInt16.toInt32) (2 * j + 1) y.toInt16.toInt32, b)) : wpX_place post (P, N, W, K, F, a, b) (nI j) x y := by
  refine nm_e (nm_e ⟨pk_in (2 * j) 16 (by omega) (tw_2j j hj), nm_r (e' := upd a (2 * j) x.toInt16.toInt32) (by rw [tw_2j j hj, nI_clamp (by omega)]) ⟨pk_in (2 * j + 1) 16 (by omega) (tw_2j1 j hj), nm_r (e' := upd (upd a (2 * j) x.toInt16.toInt32) (2 * j + 1) y.toInt16.toInt32) (by rw [tw_2j1 j hj, nI_clamp (by omega)]) h⟩⟩)
theorem tw_withdraw {post : Int32 → St1 → Prop} {j : Nat} (hj : j < 8) (hJ : tw_J P N W K F a b) (H : ∀ r P' N' W' K' F' a' b', tw_J P' N' W' K' F' a' b' → post r (P', N', W', K', F', a', b')) : wpX_withdraw post (P, N, W, K, F, a, b) (nI j) := by
  unfold wpX_withdraw
  refine tw_has hj (fun g => br_f (by decide) (nm_e (nm_e (H _ (P &&& (tw_m j ^^^ (-1))) (N &&& (tw_m j ^^^ (-1))) _ _ _ _ _ ⟨tw_Sm hJ.1 (fun i hi t => ?_) (fun c _ => rfl), hJ.2.1, Or.inl rfl⟩)))) (fun g => br_t rfl (H _ _ _ _ _ _ _ _ hJ))
  rw [tw_cm (by omega) (by omega)] at t
  refine ⟨t.1, fun l => ?_⟩
  rw [tw_cm (by omega) (by omega)] at l
  exact ⟨l.1, rfl⟩
theorem tw_unpin {post : Int32 → St1 → Prop} {j : Nat} (hj : j < 8) (hJ : tw_J P N W K F a b) (H : ∀ r P' N' W' K' F' a' b', tw_J P' N' W' K' F' a' b' → post r (P', N', W', K', F', a', b')) : wpX_unpin post (P, N, W, K, F, a, b) (nI j) := by
  unfold wpX_unpin
  refine tw_has hj (fun g => br_f (by decide) (tw_br (by omega) (fun _ => H _ _ _ _ _ _ _ _ hJ) (fun _ => nm_e (H _ _ (N &&& (tw_m j ^^^ (-1))) _ _ _ _ _ ⟨tw_Sm hJ.1 (fun i hi t => ?_) (fun c _ => rfl), hJ.2.1, Or.inl rfl⟩)))) (fun g => br_t rfl (H _ _ _ _ _ _ _ _ hJ))
  refine ⟨t, fun l => ?_⟩
  rw [tw_cm (by omega) (by omega)] at l
  exact ⟨l.1, rfl⟩
theorem tw_change {post : Int32 → St1 → Prop} {j k : Nat} {x : Int32} (hj : j < 8) (hk : k < 2) (hJ : tw_J P N W K F a b) (H : ∀ r P' N' W' K' F' a' b', tw_J P' N' W' K' F' a' b' → post r (P', N', W', K', F', a', b')) : wpX_change post (P, N, W, K, F, a, b) (nI j) (nI k) x := by
  unfold wpX_change
  have e := tw_2jk j hj k hk
  have ec : (2 * nI j + nI k).toNatClampNeg = 2 * j + k := by rw [e, nI_clamp (by omega)]
  refine tw_has hj (fun g => br_f (by decide) (tw_isN hk (br_f (by decide) (tw_isW (br_f (by decide) ⟨pk_in (2 * j + k) 16 (by omega) e, nm_r (e' := a (2 * j + k)) (by rw [ec]) ⟨pk_in (2 * j + k) 16 (by omega) e, nm_r (e' := upd a (2 * j + k) x.toInt16.toInt32) (by rw [ec]) (tw_solv (Or.inl rfl) (fun K' F' b' ho hs => br_f (by decide) (H _ _ _ _ _ _ _ _ ⟨tw_svS hs, tw_shu hJ.2.1 _ _, Or.inr ho⟩)) (fun K' F' b' ho => br_t rfl ⟨pk_in (2 * j + k) 16 (by omega) e, nm_r (e' := upd (upd a (2 * j + k) x.toInt16.toInt32) (2 * j + k) (vp_nar .short (a (2 * j + k)))) (by rw [ec]) (H _ _ _ _ _ _ _ _ ⟨?_, ?_, Or.inl rfl⟩)⟩))⟩⟩) (br_t rfl (H _ _ _ _ _ _ _ _ hJ)))))) (fun g => br_t rfl (H _ _ _ _ _ _ _ _ hJ))
  · refine tw_Sm hJ.1 (fun i hi t => ⟨t, fun l => ⟨l, rfl⟩⟩) (fun c _ => ?_)
    by_cases ek : c = 2 * j + k
    · subst ek
      rw [pk_us]
      exact hJ.2.1 _
    · rw [pk_un ek, pk_un ek]
  · intro c
    by_cases ek : c = 2 * j + k
    · subst ek
      rw [pk_us, hJ.2.1, hJ.2.1]
    · rw [pk_un ek]
      exact tw_shu hJ.2.1 _ _ c
theorem tw_pin67 {post : Int32 → St1 → Prop} {x z N1 : Int32} (hJ : tw_J P N W K F a b) (H : ∀ r P' N' W' K' F' a' b', tw_J P' N' W' K' F' a' b' → post r (P', N', W', K', F', a', b')) : wX_pin_67 post x N W z P N1 W K F a b := by
  unfold wX_pin_67
  exact tw_solv (Or.inl rfl) (fun K' F' b' ho hs => br_f (by decide) (H _ _ _ _ _ _ _ _ ⟨tw_svS hs, hJ.2.1, Or.inr ho⟩)) (fun K' F' b' ho => br_t rfl (H _ _ _ _ _ _ _ _ ⟨hJ.1, hJ.2.1, Or.inl rfl⟩))
theorem tw_pin {post : Int32 → St1 → Prop} {j k : Nat} (hj : j < 8) (hk : k < 2) (hJ : tw_J P N W K F a b) (H : ∀ r P' N' W' K' F' a' b', tw_J P' N' W' K' F' a' b' → post r (P', N', W', K', F', a', b')) : wpX_pin post (P, N, W, K, F, a, b) (nI j) (nI k) := by
  unfold wpX_pin
  exact tw_has hj (fun g => br_f (by decide) (tw_isN hk (br_f (by decide) (nm_e (br_c (fun _ => tw_pin67 hJ H) (fun _ => tw_pin67 hJ H)))))) (fun g => br_t rfl (H _ _ _ _ _ _ _ _ hJ))
/-- probe: a refusal leaves the desk as it was, but for places not in use; an answer j can be placed -/
theorem tw_probe {post : Int32 → St1 → Prop} {x y : Int32} (hJ : tw_J P N W K F a b) (H0 : ∀ r P' N' W' K' F' a' b', r < 0 → tw_J P' N' W' K' F' a' b' → post r (P', N', W', K', F', a', b')) (H1 : ∀ j P' N' F' a' b', j < 8 → tw_sh a' → tw_S (P' ||| tw_m j) (N' &&& (tw_m j ^^^ (-1))) W (upd (upd a' (2 * j) x.toInt16.toInt32) (2 * j + 1) y.toInt16.toInt32) → post (nI j) (P', N', W, 0, F', a', b')) : wpX_probe post (P, N, W, K, F, a, b) x y := by
  unfold wpX_probe
  refine tw_isW (br_f (by decide) (tw_isW (br_f (by decide) ?_) (br_t rfl (H0 _ _ _ _ _ _ _ _ (by decide) hJ)))) (br_t rfl (H0 _ _ _ _ _ _ _ _ (by decide) hJ))
  refine pk_loop (σ := Unit) (fun n i _ => wX_probe_18 post x y P N W K F a b n (nI i)) (fun _ _ => True) 8 0 () (by omega) trivial ?_ ?_
  · intro n _ _
    exact pk_le 8 8 (fun _ => H0 _ _ _ _ _ _ _ _ (by decide) hJ) (fun z => absurd z (by omega))
  · intro n j _ hj _ hw
    have hsh : tw_sh (upd (upd a (2 * j) x.toInt16.toInt32) (2 * j + 1) y.toInt16.toInt32) := tw_shu (tw_shu hJ.2.1 _ _) _ _
    refine pk_le 8 j (fun z => absurd z (by omega)) (fun _ => tw_has hj (fun g => br_f (by decide) (nm_r (nI_1 j) (hw () trivial))) (fun g => br_t rfl (tw_place hj (tw_solv (Or.inl rfl) (fun K' F' b' ho hs => nm_e (br_f (by decide) (H1 j ((P ||| tw_m j) &&& (tw_m j ^^^ (-1))) _ _ _ _ hj hsh (tw_Sm (tw_svS hs) (fun i hi t => ?_) (fun c _ => ?_))))) (fun K' F' b' ho => nm_e (br_t rfl (H0 _ ((P ||| tw_m j) &&& (tw_m j ^^^ (-1))) _ _ _ _ _ _ (by decide) ⟨tw_Sm hJ.1 (fun i hi t => ?_) (fun c hc => ?_), hsh, Or.inl rfl⟩)))))))
    · rw [tw_orm (by omega) (by omega), tw_cm (by omega) (by omega)] at t
      refine ⟨?_, fun l => ?_⟩
      · rcases t with t | t
        · exact t.1
        · rw [tw_orm (by omega) (by omega)]
          exact Or.inr t
      · rw [tw_cm (by omega) (by omega)] at l
        exact ⟨l.1, rfl⟩
    · by_cases e1 : c = 2 * j + 1
      · subst e1
        rw [pk_us, pk_us]
      · rw [pk_un e1]
        by_cases e2 : c = 2 * j
        · subst e2
          rw [pk_us, pk_un e1, pk_us]
        · rw [pk_un e2]
    · rw [tw_cm (by omega) (by omega), tw_orm (by omega) (by omega)] at t
      refine ⟨t.1.resolve_right t.2, fun l => ?_⟩
      rw [tw_cm (by omega) (by omega)] at l
      exact ⟨l.1, rfl⟩
    · have t := hc.2
      have c16 := hc.1
      rw [tw_cm (by omega) (by omega)] at t
      rw [pk_un (by omega), pk_un (by omega)]
theorem tw_offer {post : Int32 → St1 → Prop} {x y : Int32} (hJ : tw_J P N W K F a b) (H : ∀ r P' N' W' K' F' a' b', tw_J P' N' W' K' F' a' b' → post r (P', N', W', K', F', a', b')) : wpX_offer post (P, N, W, K, F, a, b) x y := by
  unfold wpX_offer
  exact tw_probe hJ (fun r P' N' W' K' F' a' b' hr hJ' => br_t hr (H _ _ _ _ _ _ _ _ hJ')) (fun j P' N' F' a' b' hj hsh hS => br_f (nI_pos (by omega)) (tw_place hj (H _ _ _ _ _ _ _ _ ⟨hS, tw_shu (tw_shu hsh _ _) _ _, Or.inl rfl⟩)))
theorem tw_turn {post : St1 → Prop} {p1 p2 p3 p4 : Int32} (hJ : tw_J P N W K F a b) (H : ∀ P' N' W' K' F' a' b', tw_J P' N' W' K' F' a' b' → post (P', N', W', K', F', a', b')) : wpL_turn post (P, N, W, K, F, a, b) p1 p2 p3 p4 := by
  obtain ⟨j, hj, ej⟩ := pk_andE p4 (m := 7) 3 (by decide)
  obtain ⟨k, hk, ek⟩ := pk_andE (p4 >>> ((3 : Int32) &&& 31)) (m := 1) 1 (by decide)
  have hj : j < 8 := hj
  have hk : k < 2 := hk
  exact nm_r ej (nm_r ek (br_c (fun _ => br_c (fun _ => br_c (fun _ => br_c
    (fun _ => tw_unpin hj hJ (fun r => H))
    (fun _ => tw_pin hj hk hJ (fun r => H)))
    (fun _ => tw_lway (fun r => tw_change hj hk hJ (fun r => H))))
    (fun _ => tw_withdraw hj hJ (fun r => H)))
    (fun _ => tw_lway (fun r => tw_lway (fun r' => tw_offer hJ (fun r => H))))))
end
end
section
/-! ===== the calls that ask: the answer hangs on present, pins and ways alone ===== -/
section
variable {P N W K F : Int32} {a b : Nat → Int32}
theorem tw_nw (j : Nat) : (if tw_b (tw_F P (tw_q P N W a) 8) (2 * j + 1) = true then (1 : Int32) else 0) = nI (tw_w P N W a j) := by
  unfold tw_w
  by_cases h : tw_b (tw_F P (tw_q P N W a) 8) (2 * j + 1) = true
  · rw [if_pos h, if_pos h]; rfl
  · rw [if_neg h, if_neg h]; rfl
theorem tw_planned {post : Int32 → St1 → Prop} {j : Nat} (hj : j < 8) (hC : tw_C P N W K F a b) (H0 : ¬ tw_b P j = true → post (-1) (P, N, W, K, F, a, b)) (H1 : tw_b P j = true → ∀ K' F' b', tw_C P N W K' F' a b' → post (nI (tw_w P N W a j)) (P, N, W, K', F', a, b')) : wpX_planned post (P, N, W, K, F, a, b) (nI j) := by
  unfold wpX_planned
  refine tw_has hj (fun g => br_f (by decide) (tw_learn hC (fun K' F' b' hk ho => ?_))) (fun g => br_t rfl (H0 g))
  show post ((F' >>> (((2 * nI j) + 1) &&& 31)) &&& 1) (P, N, W, K', F', a, b')
  have e : (F' >>> (((2 * nI j) + 1) &&& 31)) &&& 1 = nI (tw_w P N W a j) := by
    rw [tw_2j1 j hj, tw_tv (by omega), ho.2]
    exact tw_nw j
  rw [e]
  exact H1 g K' F' b' (Or.inr ho)
theorem tw_way1 {post : Int32 → Prop} {j k : Nat} (hj : j < 8) (g : tw_b P j = true) (hk : k < 2) (h : post (a (2 * j + k))) : wpX_way post (P, N, W, K, F, a, b) (nI j) (nI k) := by
  unfold wpX_way
  refine tw_has hj (fun _ => br_f (by decide) (tw_isN hk (br_f (by decide) ⟨pk_in (2 * j + k) 16 (by omega) (tw_2jk j hj k hk), ?_⟩))) (fun g' => absurd g g')
  rw [tw_2jk j hj k hk, nI_clamp (by omega)]
  exact h
theorem tw_way0 {post : Int32 → Prop} {j : Nat} {x : Int32} (hj : j < 8) (g : ¬ tw_b P j = true) (h : post (-1)) : wpX_way post (P, N, W, K, F, a, b) (nI j) x := by
  unfold wpX_way
  exact tw_has hj (fun g' => absurd g' g) (fun _ => br_t rfl h)
/-! forced -/
noncomputable def tw_f (P N W : Int32) (a : Nat → Int32) (j : Nat) : Int32 := if tw_b P j = true then (@ite Int32 (tw_q P N W a (tw_m (2 * j))) (Classical.propDecidable _) (@ite Int32 (tw_q P N W a (tw_m (2 * j + 1))) (Classical.propDecidable _) (-1) 0) 1) else -1
theorem tw_f0 {j : Nat} (g : ¬ tw_b P j = true) : tw_f P N W a j = -1 := by rw [tw_f, if_neg g]
theorem tw_f1 {j : Nat} (g : tw_b P j = true) (h : ¬ tw_q P N W a (tw_m (2 * j))) : tw_f P N W a j = 1 := by rw [tw_f, if_pos g, if_neg h]
theorem tw_f2 {j : Nat} (g : tw_b P j = true) (h : tw_q P N W a (tw_m (2 * j))) (k : tw_q P N W a (tw_m (2 * j + 1))) : tw_f P N W a j = -1 := by rw [tw_f, if_pos g, if_pos h, if_pos k]
theorem tw_f3 {j : Nat} (g : tw_b P j = true) (h : tw_q P N W a (tw_m (2 * j))) (k : ¬ tw_q P N W a (tw_m (2 * j + 1))) : tw_f P N W a j = 0 := by rw [tw_f, if_pos g, if_pos h, if_neg k]
theorem tw_forced {post : Int32 → St1 → Prop} {j : Nat} (hj : j < 8) (hC : tw_C P N W K F a b) (H : ∀ K' F' b', tw_C P N W K' F' a b' → post (tw_f P N W a j) (P, N, W, K', F', a, b')) : wpX_forced post (P, N, W, K, F, a, b) (nI j) := by
  unfold wpX_forced
  refine tw_has hj (fun g => br_f (by decide) (tw_learn hC (fun K' F' b' hk ho => ?_))) (fun g => br_t rfl ?_)
  · have t := H K' F' b' (Or.inr ho)
    dsimp only
    rw [tw_s1 j hj, tw_s2 j hj]
    refine tw_pq ho.1 (fun h => br_f (by decide) (tw_pq ho.1 (fun k => br_f (by decide) ?_) (fun k => br_t rfl ?_))) (fun h => br_t rfl ?_)
    · rw [tw_f2 g h k] at t; exact t
    · rw [tw_f3 g h k] at t; exact t
    · rw [tw_f1 g h] at t; exact t
  · have t := H K F b hC
    rw [tw_f0 g] at t
    exact t
theorem tw_fm {j : Nat} : tw_f P N W a j = -1 ↔ tw_f P N W a j < 0 := by
  constructor
  · intro e; rw [e]; decide
  · intro e
    by_cases g : tw_b P j = true
    · by_cases h : tw_q P N W a (tw_m (2 * j))
      · by_cases k : tw_q P N W a (tw_m (2 * j + 1))
        · exact tw_f2 g h k
        · rw [tw_f3 g h k] at e; exact absurd e (by decide)
      · rw [tw_f1 g h] at e; exact absurd e (by decide)
    · exact tw_f0 g
theorem tw_fw (hs : tw_sv P N W a) {j : Nat} (hj : j < 8) (e : ¬ tw_f P N W a j < 0) : tw_b P j = true ∧ tw_f P N W a j = nI (tw_w P N W a j) := by
  by_cases g : tw_b P j = true
  · refine ⟨g, ?_⟩
    by_cases h : tw_q P N W a (tw_m (2 * j))
    · by_cases k : tw_q P N W a (tw_m (2 * j + 1))
      · rw [tw_f2 g h k] at e; exact absurd (by decide) e
      · rw [tw_f3 g h k, tw_wf0 hs hj g k]; rfl
    · rw [tw_f1 g h, tw_wf1 hs hj g h]; rfl
  · rw [tw_f0 g] at e; exact absurd (by decide) e
/-! implies -/
noncomputable def tw_i (P N W : Int32) (a : Nat → Int32) (j k i m : Nat) : Int32 := if tw_b P j = true then (if tw_b P i = true then (@ite Int32 (tw_q P N W a (tw_m (2 * j + k) ||| tw_m (2 * i + 1 - m))) (Classical.propDecidable _) 0 1) else 0) else 0
theorem tw_i0 {j k i m : Nat} (g : ¬ tw_b P j = true) : tw_i P N W a j k i m = 0 := by rw [tw_i, if_neg g]
theorem tw_i1 {j k i m : Nat} (g : ¬ tw_b P i = true) : tw_i P N W a j k i m = 0 := by
  rw [tw_i]
  by_cases h : tw_b P j = true
  · rw [if_pos h, if_neg g]
  · rw [if_neg h]
theorem tw_i2 {j k i m : Nat} (g : tw_b P j = true) (h : tw_b P i = true) (q : tw_q P N W a (tw_m (2 * j + k) ||| tw_m (2 * i + 1 - m))) : tw_i P N W a j k i m = 0 := by rw [tw_i, if_pos g, if_pos h, if_pos q]
theorem tw_i3 {j k i m : Nat} (g : tw_b P j = true) (h : tw_b P i = true) (q : ¬ tw_q P N W a (tw_m (2 * j + k) ||| tw_m (2 * i + 1 - m))) : tw_i P N W a j k i m = 1 := by rw [tw_i, if_pos g, if_pos h, if_neg q]
theorem tw_imp {post : Int32 → St1 → Prop} {j k i m : Nat} {xk xm : Int32} (ek : xk = nI k) (em : xm = nI m) (hj : j < 8) (hk : k < 2) (hi : i < 8) (hm : m < 2) (hC : tw_C P N W K F a b) (H : ∀ K' F' b', tw_C P N W K' F' a b' → post (tw_i P N W a j k i m) (P, N, W, K', F', a, b')) : wpX_implies post (P, N, W, K, F, a, b) (nI j) xk (nI i) xm := by
  subst ek em
  unfold wpX_implies
  refine tw_has hj (fun g => br_f (by decide) (tw_has hi (fun h => br_f (by decide) (tw_isN hk (br_f (by decide) (tw_isN hm (br_f (by decide) (tw_learn hC (fun K' F' b' hk' ho => ?_))))))) (fun h => br_t rfl ?_))) (fun g => br_t rfl ?_)
  · have t := H K' F' b' (Or.inr ho)
    dsimp only
    rw [tw_2jk j hj k hk, tw_2jm i hi m hm]
    refine tw_pq ho.1 (fun q => br_f (by decide) ?_) (fun q => br_t rfl ?_)
    · rw [tw_i2 g h q] at t; exact t
    · rw [tw_i3 g h q] at t; exact t
  · have t := H K F b hC
    rw [tw_i1 h] at t
    exact t
  · have t := H K F b hC
    rw [tw_i0 g] at t
    exact t
theorem tw_isym {j k i m : Nat} (hk : k < 2) (hm : m < 2) : tw_i P N W a j k i m = tw_i P N W a i (1 - m) j (1 - k) := by
  by_cases g : tw_b P j = true
  · by_cases h : tw_b P i = true
    · have e : tw_m (2 * i + (1 - m)) ||| tw_m (2 * j + 1 - (1 - k)) = tw_m (2 * j + k) ||| tw_m (2 * i + 1 - m) := by
        rw [show 2 * i + (1 - m) = 2 * i + 1 - m by omega, show 2 * j + 1 - (1 - k) = 2 * j + k by omega, Int32.or_comm]
      by_cases q : tw_q P N W a (tw_m (2 * j + k) ||| tw_m (2 * i + 1 - m))
      · rw [tw_i2 g h q, tw_i2 h g (by rw [e]; exact q)]
      · rw [tw_i3 g h q, tw_i3 h g (by rw [e]; exact q)]
    · rw [tw_i1 h, tw_i0 h]
  · rw [tw_i0 g, tw_i1 g]
theorem tw_iown (hs : tw_sv P N W a) {j k : Nat} (hj : j < 8) (hk : k < 2) (g : tw_b P j = true) : (tw_f P N W a j = nI k → tw_i P N W a j (1 - k) j k = 1) ∧ (¬ tw_f P N W a j = nI k → tw_i P N W a j (1 - k) j k = 0) := by
  have e : tw_m (2 * j + (1 - k)) ||| tw_m (2 * j + 1 - k) = tw_m (2 * j + 1 - k) := by
    rw [show 2 * j + (1 - k) = 2 * j + 1 - k by omega, Int32.or_self]
  have y : ¬ tw_q P N W a (tw_m (2 * j + 1 - k)) → tw_i P N W a j (1 - k) j k = 1 := fun q => tw_i3 g g (by rw [e]; exact q)
  have n : tw_q P N W a (tw_m (2 * j + 1 - k)) → tw_i P N W a j (1 - k) j k = 0 := fun q => tw_i2 g g (by rw [e]; exact q)
  have h01 : k = 0 ∨ k = 1 := by omega
  rcases h01 with z | z
  · subst z
    by_cases h : tw_q P N W a (tw_m (2 * j))
    · by_cases q : tw_q P N W a (tw_m (2 * j + 1))
      · rw [tw_f2 g h q]
        exact ⟨fun t => absurd t (by decide), fun _ => n q⟩
      · rw [tw_f3 g h q]
        exact ⟨fun _ => y q, fun t => absurd rfl t⟩
    · rw [tw_f1 g h]
      exact ⟨fun t => absurd t (by decide), fun _ => n ((hs j hj g).resolve_left h)⟩
  · subst z
    by_cases h : tw_q P N W a (tw_m (2 * j))
    · by_cases q : tw_q P N W a (tw_m (2 * j + 1))
      · rw [tw_f2 g h q]
        exact ⟨fun t => absurd t (by decide), fun _ => n h⟩
      · rw [tw_f3 g h q]
        exact ⟨fun t => absurd t (by decide), fun _ => n h⟩
    · rw [tw_f1 g h]
      exact ⟨fun _ => y h, fun t => absurd rfl t⟩
/-! forcedJobs -/
noncomputable def tw_n (P N W : Int32) (a : Nat → Int32) : Nat → Int32
  | 0 => 0
  | j + 1 => if tw_f P N W a j < 0 then tw_n P N W a j else tw_n P N W a j + 1
theorem tw_fjobs {post : Int32 → St1 → Prop} (hC : tw_C P N W K F a b) (H : ∀ K' F' b', tw_C P N W K' F' a b' → post (tw_n P N W a 8) (P, N, W, K', F', a, b')) : wpX_forcedJobs post (P, N, W, K, F, a, b) := by
  refine pk_loop (fun n i (s : Int32 × Int32 × (Nat → Int32)) => wX_forcedJobs_4 post n (tw_n P N W a i) (nI i) P N W s.1 s.2.1 a s.2.2) (fun _ s => tw_C P N W s.1 s.2.1 a s.2.2) 8 0 (K, F, b) (by omega) hC ?_ ?_
  · intro n s h
    exact pk_le 8 8 (fun _ => H _ _ _ h) (fun z => absurd z (by omega))
  · intro n i s hi h hw
    refine pk_le 8 i (fun z => absurd z (by omega)) (fun _ => tw_forced hi h (fun K' F' b' hC' => ?_))
    have t : wX_forcedJobs_4 post n (tw_n P N W a (i + 1)) (nI (i + 1)) P N W K' F' a b' := hw (K', F', b') hC'
    refine br_c (fun e => nm_r (nI_1 i) ?_) (fun e => nm_e (nm_r (nI_1 i) ?_))
    · rw [tw_n, if_pos (tw_fm.mp e)] at t
      exact t
    · rw [tw_n, if_neg (fun z => e (tw_fm.mpr z))] at t
      exact t
/-! couldKeepFree, alwaysTaken -/
def tw_Z (P N W : Int32) (a : Nat → Int32) (A : Int32) : Prop := tw_ps (tw_p P) (tw_E P N W a) (fun e => tw_col (a (tw_o e)) A)
theorem tw_avoid {post : Int32 → Prop} {A : Int32} (H : ∀ r, (tw_q P N W a r ↔ tw_Z P N W a A) → post r) : wpX_avoiding post (P, N, W, K, F, a, b) A := by
  refine pk_loop (fun n i s => wX_avoiding_4 post A P N W K F a b n s (nI i)) (fun i s => ∀ e, e < 16 → (tw_b s e = true ↔ tw_o e < i ∧ tw_p P e ∧ tw_col (a (tw_o e)) A)) 16 0 0 (by omega) ?_ ?_ ?_
  · intro e _
    rw [tw_b0]
    exact ⟨fun h => absurd h (by decide), fun h => absurd h.1 (by omega)⟩
  · intro n s h
    refine pk_le 16 16 (fun _ => H s (tw_psc (fun c hc => ?_))) (fun z => absurd z (by omega))
    rw [h c hc.1]
    exact ⟨fun t => t.2.2, fun t => ⟨tw_o16 hc.1, hc, t⟩⟩
  · intro n i s hi h hw
    have nx : ¬ (tw_b P (i / 2) = true ∧ tw_col (a i) A) → wX_avoiding_4 post A P N W K F a b n s (nI (i + 1)) := by
      intro g
      refine hw s (fun e he => ?_)
      rw [h e he]
      refine ⟨fun t => ⟨by omega, t.2⟩, fun t => ⟨?_, t.2⟩⟩
      by_cases k : tw_o e = i
      · subst k
        rw [tw_o2] at g
        exact absurd ⟨t.2.1.2, t.2.2⟩ g
      · omega
    refine pk_le 16 i (fun z => absurd z (by omega)) (fun _ => tw_hasx (tw_hf i hi) (by omega) (fun g => br_f (by decide) ⟨pk_in i 16 hi, ?_⟩) (fun g => br_t rfl (nm_r (nI_1 i) (nx (fun t => g t.1)))))
    rw [nI_clamp (by omega)]
    refine tw_wcol (fun l => br_f (by decide) (nm_r (e' := s ||| tw_m (tw_o i)) (by rw [tw_mx hi]) (nm_r (nI_1 i) (hw _ (fun e he => ?_))))) (fun l => br_t rfl (nm_r (nI_1 i) (nx (fun t => l t.2))))
    have oi := tw_o16 hi
    rw [tw_orm (by omega) (by omega), h e he]
    constructor
    · rintro (t | t)
      · exact ⟨by omega, t.2⟩
      · subst t
        rw [tw_oo]
        exact ⟨by omega, ⟨oi, by rw [tw_o2]; exact g⟩, l⟩
    · rintro ⟨t1, t2⟩
      by_cases k : tw_o e = i
      · subst k
        rw [tw_oo]
        exact Or.inr rfl
      · exact Or.inl ⟨by omega, t2⟩
theorem tw_A : ∀ m, m < 3 → ∀ t, t < 20 → ¬ (nI m + 4 * nI t) + 128 < 0 ∧ ¬ 4095 < (nI m + 4 * nI t) + 128 ∧ ((nI m + 4 * nI t) + 128) &&& 3 ≤ 2 ∧ ¬ (((nI m + 4 * nI t) + 128) >>> ((7 : Int32) &&& 31)) < 1 ∧ ¬ 20 < ((((nI m + 4 * nI t) + 128) >>> ((2 : Int32) &&& 31)) &&& 31) + (((nI m + 4 * nI t) + 128) >>> ((7 : Int32) &&& 31)) := by decide +kernel
theorem tw_keep {post : Int32 → St1 → Prop} {m t : Nat} (hm : m < 3) (ht : t < 20) (hC : tw_C P N W K F a b) (H1 : tw_Z P N W a ((nI m + 4 * nI t) + 128) → ∀ K' F' b', tw_C P N W K' F' a b' → post 1 (P, N, W, K', F', a, b')) (H0 : ¬ tw_Z P N W a ((nI m + 4 * nI t) + 128) → ∀ K' F' b', tw_C P N W K' F' a b' → post 0 (P, N, W, K', F', a, b')) : wpX_couldKeepFree post (P, N, W, K, F, a, b) ((nI m + 4 * nI t) + 128) := by
  obtain ⟨k1, k2, k3, k4, k5⟩ := tw_A m hm t ht
  refine br_f k1 (br_f k2 (br_t k3 (br_f k4 (br_f k5 (br_f (by decide) ?_)))))
  refine tw_learn hC (fun K' F' b' hk ho => ?_)
  refine tw_avoid (fun r hr => tw_pq ho.1 (fun q => ⟨rfl, H1 (hr.mp q) _ _ _ (Or.inr ho)⟩) (fun q => ⟨rfl, H0 (fun z => q (hr.mpr z)) _ _ _ (Or.inr ho)⟩))
theorem tw_always {post : Int32 → St1 → Prop} {m t : Nat} (hm : m < 3) (ht : t < 20) (hC : tw_C P N W K F a b) (H1 : tw_Z P N W a ((nI m + 4 * nI t) + 128) → ∀ K' F' b', tw_C P N W K' F' a b' → post 0 (P, N, W, K', F', a, b')) (H0 : ¬ tw_Z P N W a ((nI m + 4 * nI t) + 128) → ∀ K' F' b', tw_C P N W K' F' a b' → post 1 (P, N, W, K', F', a, b')) : wpX_alwaysTaken post (P, N, W, K, F, a, b) (nI m) (nI t) := by
  refine pk_lt m 0 (fun z => absurd z (by omega)) (fun _ => pk_lt 2 m (fun z => absurd z (by omega)) (fun _ => pk_lt t 0 (fun z => absurd z (by omega)) (fun _ => pk_lt t 20 (fun _ => ?_) (fun z => absurd z (by omega)))))
  refine tw_learn hC (fun K' F' b' hk ho => ?_)
  refine tw_avoid (fun r hr => tw_pq ho.1 (fun q => br_f (by decide) (H1 (hr.mp q) _ _ _ (Or.inr ho))) (fun q => br_t rfl (H0 (fun z => q (hr.mpr z)) _ _ _ (Or.inr ho))))
end
end
section
/-! ===== the law's loops ===== -/
section
variable {P N W K F : Int32} {a b : Nat → Int32}
noncomputable def tw_wy (P N W : Int32) (a : Nat → Int32) (j : Nat) : Int32 := if tw_b P j = true then a (2 * j + tw_w P N W a j) else -1
theorem tw_wy0 {j : Nat} (g : ¬ tw_b P j = true) : tw_wy P N W a j = -1 := by rw [tw_wy, if_neg g]
theorem tw_wy1 {j : Nat} (g : tw_b P j = true) : tw_wy P N W a j = a (2 * j + tw_w P N W a j) := by rw [tw_wy, if_pos g]
theorem tw_p24 {post : Int32 → St1 → Prop} {J : Int32 → Int32 → Int32 → Int32 → Int32 → Int32 → (Nat → Int32) → (Nat → Int32) → Prop} {j : Nat} (hs : tw_sv P N W a) (hj : j < 8) (hC : tw_C P N W K F a b) (H : ∀ K' F' b', tw_C P N W K' F' a b' → J (nI (j + 1)) P N W K' F' a b') : ∃ n, wL_plan_24 post J (nI j) (tw_wy P N W a j) n 0 P N W K F a b := by
  refine pk_loop (fun n i (s : Int32 × Int32 × (Nat → Int32)) => wL_plan_24 post J (nI j) (tw_wy P N W a j) n (nI i) P N W s.1 s.2.1 a s.2.2) (fun _ s => tw_C P N W s.1 s.2.1 a s.2.2) j 0 (K, F, b) (by omega) hC ?_ ?_
  · intro n s h
    exact pk_le j j (fun _ => nm_r (nI_1 j) (H _ _ _ h)) (fun z => absurd z (by omega))
  · intro n i s hi h hw
    have nx : ∀ K' F' b', tw_C P N W K' F' a b' → wL_plan_24 post J (nI j) (tw_wy P N W a j) n (nI (i + 1)) P N W K' F' a b' := fun K' F' b' hC' => hw (K', F', b') hC'
    refine pk_le j i (fun z => absurd z (by omega)) (fun _ => tw_planned (by omega) h (fun g => ?_) (fun g K' F' b' hC' => ?_))
    · exact tw_way0 (by omega) g (br_c (fun _ => nm_r (nI_1 i) (nx _ _ _ h)) (fun _ => br_t (by decide) (nm_r (nI_1 i) (nx _ _ _ h))))
    · refine tw_way1 (by omega) g (tw_w2 i) (br_c (fun _ => nm_r (nI_1 i) (nx _ _ _ hC')) (fun k => br_c (fun _ => nm_r (nI_1 i) (nx _ _ _ hC')) (fun _ => tw_lcol (fun t => ?_) (fun _ => br_t rfl (nm_r (nI_1 i) (nx _ _ _ hC'))))))
      by_cases pj : tw_b P j = true
      · rw [tw_wy1 pj] at t
        exact absurd t (tw_nocol hs (by omega) (by omega) hj g pj)
      · rw [tw_wy0 pj] at k
        exact absurd (by decide) k
theorem tw_plan {post : Int32 → St1 → Prop} (hs : tw_sv P N W a) (hC : tw_C P N W K F a b) (H : ∀ K' F' b', tw_C P N W K' F' a b' → post 1 (P, N, W, K', F', a, b')) : wpL_plan post (P, N, W, K, F, a, b) := by
  refine pk_loop (fun n i (s : Int32 × Int32 × (Nat → Int32)) => wL_plan_2 post n (nI i) P N W s.1 s.2.1 a s.2.2) (fun _ s => tw_C P N W s.1 s.2.1 a s.2.2) 8 0 (K, F, b) (by omega) hC ?_ ?_
  · intro n s h
    exact pk_le 8 8 (fun _ => H _ _ _ h) (fun z => absurd z (by omega))
  · intro n j s hj h hw
    have nx : ∀ K' F' b', tw_C P N W K' F' a b' → wL_plan_2 post n (nI (j + 1)) P N W K' F' a b' := fun K' F' b' hC' => hw (K', F', b') hC'
    refine pk_le 8 j (fun z => absurd z (by omega)) (fun _ => tw_planned hj h (fun g => ?_) (fun g K' F' b' hC' => ?_))
    · refine tw_way0 hj g ?_
      rw [← tw_wy0 (P := P) (N := N) (W := W) (a := a) g]
      exact tw_p24 hs hj h nx
    · refine tw_way1 hj g (tw_w2 j) ?_
      rw [← tw_wy1 (P := P) (N := N) (W := W) (a := a) g]
      exact tw_p24 hs hj hC' nx
theorem tw_f111 {post : Int32 → St1 → Prop} {J5 : Int32 → Int32 → Int32 → Int32 → Int32 → Int32 → Int32 → (Nat → Int32) → (Nat → Int32) → Prop} {J : Int32 → Int32 → Int32 → Int32 → Int32 → Int32 → (Nat → Int32) → (Nat → Int32) → Prop} {i m j k : Nat} {x3 x5 x6 z0 z1 : Int32} (hi : i < 8) (hm : m < 2) (hj : j < 8) (hk : k < 2) (hz : z1 = z0) (hC : tw_C P N W K F a b) (H : ∀ K' F' b', tw_C P N W K' F' a b' → J (nI (k + 1)) P N W K' F' a b') : wL_forced_111 post J5 J (nI i) (nI m) x3 (nI j) x5 x6 (nI k) z0 z1 P N W K F a b :=
  br_t hz (tw_imp rfl rfl hj hk hi hm hC (fun K' F' b' hC' => tw_imp (tw_1k m hm) (tw_1k k hk) hi (by omega) hj (by omega) hC' (fun K2 F2 b2 hC2 => br_t (tw_isym hk hm) (nm_r (nI_1 k) (H _ _ _ hC2)))))
theorem tw_f74 {post : Int32 → St1 → Prop} {J5 : Int32 → Int32 → Int32 → Int32 → Int32 → Int32 → Int32 → (Nat → Int32) → (Nat → Int32) → Prop} {i m j : Nat} {x3 x6 : Int32} (hs : tw_sv P N W a) (hi : i < 8) (hm : m < 2) (hj : j < 8) (h6 : x6 = 0 ↔ ¬ tw_b P j = true) (hC : tw_C P N W K F a b) (H : ∀ K' F' b', tw_C P N W K' F' a b' → J5 x3 (nI (j + 1)) P N W K' F' a b') : ∃ n, wL_forced_74 post J5 (nI i) (nI m) x3 (nI j) (tw_f P N W a j) x6 n 0 P N W K F a b := by
  refine pk_loop (fun n k (s : Int32 × Int32 × (Nat → Int32)) => wL_forced_74 post J5 (nI i) (nI m) x3 (nI j) (tw_f P N W a j) x6 n (nI k) P N W s.1 s.2.1 a s.2.2) (fun _ s => tw_C P N W s.1 s.2.1 a s.2.2) 2 0 (K, F, b) (by omega) hC ?_ ?_
  · intro n s h
    exact pk_le 2 2 (fun _ => nm_r (nI_1 j) (H _ _ _ h)) (fun z => absurd z (by omega))
  · intro n k s hk h hw
    have nx : ∀ K' F' b', tw_C P N W K' F' a b' → wL_forced_74 post J5 (nI i) (nI m) x3 (nI j) (tw_f P N W a j) x6 n (nI (k + 1)) P N W K' F' a b' := fun K' F' b' hC' => hw (K', F', b') hC'
    refine pk_le 2 k (fun z => absurd z (by omega)) (fun _ => tw_imp (tw_1k k hk) rfl hj (by omega) hj hk h (fun K' F' b' hC' => br_c (fun e => ?_) (fun e => ?_)))
    · exact tw_f111 hi hm hj hk (tw_i0 (h6.mp e)) hC' nx
    · have g : tw_b P j = true := Classical.byContradiction (fun t => e (h6.mpr t))
      exact br_c (fun t => tw_f111 hi hm hj hk ((tw_iown hs hj hk g).1 t) hC' nx) (fun t => tw_f111 hi hm hj hk ((tw_iown hs hj hk g).2 t) hC' nx)
theorem tw_f51 {post : Int32 → St1 → Prop} {J5 : Int32 → Int32 → Int32 → Int32 → Int32 → Int32 → Int32 → (Nat → Int32) → (Nat → Int32) → Prop} {i m j : Nat} {x3 x6 : Int32} (hs : tw_sv P N W a) (hi : i < 8) (hm : m < 2) (hj : j < 8) (h6 : x6 = 0 ↔ ¬ tw_b P j = true) (hC : tw_C P N W K F a b) (H : ∀ K' F' b', tw_C P N W K' F' a b' → J5 x3 (nI (j + 1)) P N W K' F' a b') : wL_forced_51 post J5 (nI i) (nI m) x3 (nI j) (tw_f P N W a j) x6 P N W K F a b :=
  br_c (fun _ => tw_f74 hs hi hm hj h6 hC H) (fun e => tw_planned hj hC (fun g => absurd (tw_fw hs hj e).1 g) (fun g K' F' b' hC' => br_t (tw_fw hs hj e).2 (tw_f74 hs hi hm hj h6 hC' H)))
theorem tw_f32 {post : Int32 → St1 → Prop} {J5 : Int32 → Int32 → Int32 → Int32 → Int32 → Int32 → Int32 → (Nat → Int32) → (Nat → Int32) → Prop} {i m j : Nat} {x3 : Int32} (hs : tw_sv P N W a) (hi : i < 8) (hm : m < 2) (hj : j < 8) (hC : tw_C P N W K F a b) (H : ∀ K' F' b', tw_C P N W K' F' a b' → J5 x3 (nI (j + 1)) P N W K' F' a b') : wL_forced_32 post J5 (nI i) (nI m) (nI j) (tw_f P N W a j) x3 P N W K F a b := by
  refine br_c (fun e => tw_f51 hs hi hm hj ?_ hC H) (fun e => tw_f51 hs hi hm hj ?_ hC H)
  · have g : tw_b P j = true := (tw_t1 (by omega)).mp e
    exact ⟨fun t => absurd t (by decide), fun t => absurd g t⟩
  · have g : ¬ tw_b P j = true := fun t => e ((tw_t1 (by omega)).mpr t)
    exact ⟨fun _ => g, fun _ => rfl⟩
theorem tw_lforced {post : Int32 → St1 → Prop} {i m : Nat} (hs : tw_sv P N W a) (hi : i < 8) (hm : m < 2) (hC : tw_C P N W K F a b) (H : ∀ K' F' b', tw_C P N W K' F' a b' → post 1 (P, N, W, K', F', a, b')) : wpL_forced post (P, N, W, K, F, a, b) (nI i) (nI m) := by
  refine pk_loop (fun n j (s : Int32 × Int32 × (Nat → Int32)) => wL_forced_5 post (nI i) (nI m) n (tw_n P N W a j) (nI j) P N W s.1 s.2.1 a s.2.2) (fun _ s => tw_C P N W s.1 s.2.1 a s.2.2) 8 0 (K, F, b) (by omega) hC ?_ ?_
  · intro n s h
    exact pk_le 8 8 (fun _ => tw_fjobs h (fun K' F' b' hC' => br_t rfl (H _ _ _ hC'))) (fun z => absurd z (by omega))
  · intro n j s hj h hw
    have nx : ∀ K' F' b', tw_C P N W K' F' a b' → wL_forced_5 post (nI i) (nI m) n (tw_n P N W a (j + 1)) (nI (j + 1)) P N W K' F' a b' := fun K' F' b' hC' => hw (K', F', b') hC'
    rw [tw_n] at nx
    refine pk_le 8 j (fun z => absurd z (by omega)) (fun _ => tw_forced hj h (fun K' F' b' hC' => br_c (fun e => ?_) (fun e => ?_)))
    · rw [if_pos e] at nx
      exact tw_f32 hs hi hm hj hC' nx
    · rw [if_neg e] at nx
      exact tw_f32 hs hi hm hj hC' nx
end
/-! ===== the law ===== -/
theorem tw_rem3 (z s : Int32) : ∃ m, m < 3 ∧ ((z >>> s) &&& 255) - ((z >>> s) &&& 255) / 3 * 3 = nI m := by
  obtain ⟨n, hn, e⟩ := pk_andE (z >>> s) (m := 255) 8 (by decide)
  have hn : n < 256 := hn
  rw [e]
  exact ⟨n % 3, Nat.mod_lt _ (by omega), pk_rem (d := 3) (by omega) (by omega) (by omega)⟩
theorem tw_rem20 (z s : Int32) : ∃ m, m < 20 ∧ ((z >>> s) &&& 255) - ((z >>> s) &&& 255) / 20 * 20 = nI m := by
  obtain ⟨n, hn, e⟩ := pk_andE (z >>> s) (m := 255) 8 (by decide)
  have hn : n < 256 := hn
  rw [e]
  exact ⟨n % 20, Nat.mod_lt _ (by omega), pk_rem (d := 20) (by omega) (by omega) (by omega)⟩
theorem tw_J0 : tw_J 0 0 0 0 0 (fun _ => 0) (fun _ => 0) := by
  refine ⟨⟨fun _ => False, fun c hc => ?_, fun c t => t.1, fun c d t _ => t⟩, fun c => rfl, Or.inl rfl⟩
  have t := hc.2
  rw [tw_b0] at t
  exact absurd t (by decide)
theorem i_vc (xs : Nat → Int32) (L : Nat) (hL : L ≤ 260) : wpL_law (fun r => r = 1) L xs := by
  refine ⟨2, 32, by omega, by omega, by omega, by omega, by omega, by omega, ?_⟩
  refine loop_m (fun n (s : Nat × Int32 × Int32 × Int32 × Int32 × Int32 × (Nat → Int32) × (Nat → Int32)) => wL_law_10 (fun r => r = 1) L xs (1 + 2) (7 + 32) n (nI s.1) s.2.1 s.2.2.1 s.2.2.2.1 s.2.2.2.2.1 s.2.2.2.2.2.1 s.2.2.2.2.2.2.1 s.2.2.2.2.2.2.2) (fun s => s.1 ≤ 260 ∧ tw_J s.2.1 s.2.2.1 s.2.2.2.1 s.2.2.2.2.1 s.2.2.2.2.2.1 s.2.2.2.2.2.2.1 s.2.2.2.2.2.2.2) (fun s => 260 - s.1) ?_ (0, 0, 0, 0, 0, 0, (fun _ => 0), (fun _ => 0)) ⟨by omega, tw_J0⟩
  rintro n ⟨i, P, N, W, K, F, a, b⟩ ⟨hi, hJ⟩ hw
  have hi : i ≤ 260 := hi
  have hJ : tw_J P N W K F a b := hJ
  refine pk_le L (i + 3) (fun _ => rfl) (fun hl => ⟨pk_in (i + 3) L hl (nI_add i 3), nm_e ⟨pk_in i L (by omega), pk_in (i + 1) L (by omega) (nI_add i 1), pk_in (i + 2) L (by omega) (nI_add i 2), ?_⟩⟩) rfl (nI_add i 3)
  refine tw_turn hJ (fun P N W K F a b hJ => ?_)
  obtain ⟨m, hm, em⟩ := tw_rem3 (xs (nI i + 3).toNatClampNeg) ((4 : Int32) &&& 31)
  obtain ⟨t, ht, et⟩ := tw_rem20 (xs (nI i + 3).toNatClampNeg) ((12 : Int32) &&& 31)
  obtain ⟨j, hj, ej⟩ := pk_andE (xs (nI i + 3).toNatClampNeg >>> ((20 : Int32) &&& 31)) (m := 7) 3 (by decide)
  obtain ⟨k, hk, ek⟩ := pk_andE (xs (nI i + 3).toNatClampNeg >>> ((23 : Int32) &&& 31)) (m := 1) 1 (by decide)
  have hj : j < 8 := hj
  have hk : k < 2 := hk
  have hs := tw_Ssv hJ.1
  refine ⟨by decide, nm_r em ⟨by decide, nm_r et (tw_plan hs hJ.2.2 (fun K F b hC => br_f (by decide) ?_))⟩⟩
  rw [ej, ek]
  refine tw_lforced hs hj hk hC (fun K F b hC => br_f (by decide) ?_)
  have nx : ∀ K' F' b', tw_C P N W K' F' a b' → wL_law_10 (fun r => r = 1) L xs (1 + 2) (7 + 32) n (nI (i + 4)) P N W K' F' a b' := fun K' F' b' hC' => hw (i + 4, P, N, W, K', F', a, b') ⟨by show i + 4 ≤ 260; omega, hJ.1, hJ.2.1, hC'⟩ (by show 260 - (i + 4) < 260 - i; omega)
  refine tw_keep hm ht hC (fun z K F b hC => tw_always hm ht hC (fun _ K F b hC => br_f (by decide) (nm_r (nI_add i 4) (nx _ _ _ hC))) (fun z' => absurd z z')) (fun z K F b hC => tw_always hm ht hC (fun z' => absurd z' z) (fun _ K F b hC => br_f (by decide) (nm_r (nI_add i 4) (nx _ _ _ hC))))
end
