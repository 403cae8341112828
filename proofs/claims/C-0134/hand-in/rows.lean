section
theorem pk_us {f : Nat → Int32} {k : Nat} {x : Int32} : upd f k x k = x := if_pos rfl
theorem pk_un {f : Nat → Int32} {k j : Nat} {x : Int32} (h : j ≠ k) : upd f k x j = f j := if_neg h
theorem pk_sub {a b : Nat} (h : b ≤ a) : nI a - nI b = nI (a - b) := by
  obtain ⟨c, rfl⟩ : ∃ c, a = c + b := ⟨a - b, by omega⟩
  rw [← nI_add, Int32.add_sub_cancel, Nat.add_sub_cancel]
theorem pk_m1 (n : Nat) : nI (n + 1) + (-1) = nI n := by
  rw [← nI_1, Int32.add_assoc, show (1 : Int32) + (-1) = 0 from rfl, Int32.add_zero]
theorem pk_mul (a b : Nat) : nI a * nI b = nI (a * b) := (Int32.ofNat_mul a b).symm
theorem pk_sub_toInt {a b : Nat} (ha : a < 2 ^ 30) (hb : b < 2 ^ 30) : (nI a - nI b).toInt = (a : Int) - b := by
  rw [Int32.toInt_sub, nI_toInt (by omega), nI_toInt (by omega)]
  exact Int.bmod_eq_of_le (by omega) (by omega)
theorem pk_sneg {a b : Nat} (hb : b < 2 ^ 30) (h : a < b) : nI a - nI b < 0 := by
  rw [Int32.lt_iff_toInt_lt, pk_sub_toInt (by omega) hb, show (0 : Int32).toInt = 0 from by decide]
  omega
theorem pk_ix (x : Int32) {n : Nat} (hn : n < 2 ^ 31) : x < 0 ∨ nI n ≤ x ∨ ∃ j : Nat, j < n ∧ x = nI j := by
  by_cases h : x < 0
  · exact Or.inl h
  · obtain ⟨j, hj, rfl⟩ := nI_of h
    by_cases h2 : j < n
    · exact Or.inr (Or.inr ⟨j, h2, rfl⟩)
    · exact Or.inr (Or.inl (nI_le (by omega) hj))
theorem pk_le {x y : Int32} {A B : Prop} (a b : Nat) (f : a ≤ b → A) (g : b < a → B) (hx : x = nI a := by rfl) (hy : y = nI b := by rfl) (ha : a < 2 ^ 31 := by omega) (hb : b < 2 ^ 31 := by omega) : (x ≤ y → A) ∧ (¬ x ≤ y → B) := by
  subst hx hy
  rw [nI_leI ha hb]
  exact ⟨f, fun z => g (by omega)⟩
theorem pk_lt {x y : Int32} {A B : Prop} (a b : Nat) (f : a < b → A) (g : b ≤ a → B) (hx : x = nI a := by rfl) (hy : y = nI b := by rfl) (ha : a < 2 ^ 31 := by omega) (hb : b < 2 ^ 31 := by omega) : (x < y → A) ∧ (¬ x < y → B) := by
  subst hx hy
  rw [nI_ltI ha hb]
  exact ⟨f, fun z => g (by omega)⟩
theorem pk_eq {x y : Int32} {A B : Prop} (a b : Nat) (f : a = b → A) (g : a ≠ b → B) (hx : x = nI a := by rfl) (hy : y = nI b := by rfl) (ha : a < 2 ^ 31 := by omega) (hb : b < 2 ^ 31 := by omega) : (x = y → A) ∧ (¬ x = y → B) := by
  subst hx hy
  rw [nI_eq ha hb]
  exact ⟨f, g⟩
theorem pk_in {x : Int32} (n N : Nat) (h : n < N) (hx : x = nI n := by rfl) (hN : N < 2 ^ 31 := by omega) : vp_in x N := by
  subst hx
  exact vp_in_nI h hN
theorem pk_cl {x : Int32} (n : Nat) (hx : x = nI n := by rfl) (h : n < 2 ^ 31 := by omega) : x.toNatClampNeg = n := by
  subst hx
  exact nI_clamp h
theorem pk_least (P : Nat → Prop) (h : ∃ k, P k) : ∃ k, P k ∧ ∀ j, j < k → ¬ P j := by
  obtain ⟨k, hk⟩ := h
  induction k using Nat.strongRecOn with
  | ind k ih =>
    by_cases e : ∃ j, j < k ∧ P j
    · obtain ⟨j, hj, pj⟩ := e
      exact ih j hj pj
    · exact ⟨k, hk, fun j hj pj => e ⟨j, hj, pj⟩⟩
end
section
/-! the automaton of a word's factors: pure facts. T e n is the state of the n letters that end at place e -/
def sa_eq (w : Nat → Nat) (e f n : Nat) : Prop := ∀ i, i < n → w (e - 1 - i) = w (f - 1 - i)
theorem sa_eq_r (w : Nat → Nat) (e n : Nat) : sa_eq w e e n := fun _ _ => rfl
theorem sa_eq_s {w : Nat → Nat} {e f n : Nat} (h : sa_eq w e f n) : sa_eq w f e n := fun i hi => (h i hi).symm
theorem sa_eq_t {w : Nat → Nat} {e f g n : Nat} (h : sa_eq w e f n) (h' : sa_eq w f g n) : sa_eq w e g n := fun i hi => (h i hi).trans (h' i hi)
theorem sa_eq_m {w : Nat → Nat} {e f n m : Nat} (hm : m ≤ n) (h : sa_eq w e f n) : sa_eq w e f m := fun i hi => h i (Nat.lt_of_lt_of_le hi hm)
theorem sa_eq_1 {w : Nat → Nat} {e f n : Nat} (h : sa_eq w (e + 1) (f + 1) (n + 1)) : w e = w f ∧ sa_eq w e f n := by
  refine ⟨?_, fun i hi => ?_⟩
  · have := h 0 (by omega)
    simpa using this
  · have := h (i + 1) (by omega)
    have a : e + 1 - 1 - (i + 1) = e - 1 - i := by omega
    have b : f + 1 - 1 - (i + 1) = f - 1 - i := by omega
    rw [a, b] at this
    exact this
theorem sa_eq_2 {w : Nat → Nat} {e f n : Nat} (h0 : w e = w f) (h : sa_eq w e f n) : sa_eq w (e + 1) (f + 1) (n + 1) := by
  intro i hi
  cases i with
  | zero => simpa using h0
  | succ i =>
    have a : e + 1 - 1 - (i + 1) = e - 1 - i := by omega
    have b : f + 1 - 1 - (i + 1) = f - 1 - i := by omega
    rw [a, b]
    exact h i (by omega)
theorem sa_eq_w {w w' : Nat → Nat} {s e f n : Nat} (hw : ∀ j, j < s → w' j = w j) (he : e ≤ s) (hf : f ≤ s) (ne : n ≤ e) (nf : n ≤ f) (h : sa_eq w e f n) : sa_eq w' e f n := by
  intro i hi
  rw [hw _ (by omega), hw _ (by omega)]
  exact h i hi
def sa_J1 (w : Nat → Nat) (s : Nat) (P : Nat → Prop) (L sh E : Nat → Nat) (T : Nat → Nat → Nat) : Prop :=
  ∀ e n, n ≤ e → e ≤ s → P (T e n) ∧ n ≤ L (T e n) ∧ L (T e n) ≤ e ∧ E (T e n) ≤ e ∧ (T e n ≠ 0 → L (sh (T e n)) < n) ∧ sa_eq w e (E (T e n)) (L (T e n))
def sa_J2 (s : Nat) (P : Nat → Prop) (L sh E : Nat → Nat) (T : Nat → Nat → Nat) : Prop :=
  ∀ k, P k → k ≠ 0 → P (sh k) ∧ L (sh k) < L k ∧ L k ≤ E k ∧ E k ≤ s ∧ (∀ n, L (sh k) < n → n ≤ L k → T (E k) n = k) ∧ T (E k) (L (sh k)) = sh k
def sa_J3 (w : Nat → Nat) (s : Nat) (T : Nat → Nat → Nat) : Prop :=
  ∀ e f n, n ≤ e → n ≤ f → e ≤ s → f ≤ s → sa_eq w e f n → T e n = T f n
def sa_J4 (w : Nat → Nat) (s : Nat) (nx T : Nat → Nat → Nat) : Prop :=
  ∀ e n, n ≤ e → e < s → nx (T e n) (w e) = T (e + 1) (n + 1)
def sa_J5 (w : Nat → Nat) (s : Nat) (P : Nat → Prop) (L : Nat → Nat) (nx T : Nat → Nat → Nat) : Prop :=
  ∀ k c, P k → c < 4 → nx k c ≠ 0 → ∃ e, e < s ∧ w e = c ∧ L k ≤ e ∧ T e (L k) = k
def sa_Inv (w : Nat → Nat) (s : Nat) (P : Nat → Prop) (L sh E : Nat → Nat) (nx T : Nat → Nat → Nat) : Prop :=
  (P 0 ∧ L 0 = 0 ∧ E 0 = 0 ∧ ∀ j, w j < 4) ∧ sa_J1 w s P L sh E T ∧ sa_J2 s P L sh E T ∧ sa_J3 w s T ∧ sa_J4 w s nx T ∧ sa_J5 w s P L nx T
section
variable {w : Nat → Nat} {s : Nat} {P : Nat → Prop} {L sh E : Nat → Nat} {nx T : Nat → Nat → Nat}
theorem sa_z (I : sa_Inv w s P L sh E nx T) {e : Nat} (he : e ≤ s) : T e 0 = 0 :=
  Classical.byContradiction fun h => by
    have := (I.2.1 e 0 (Nat.zero_le _) he).2.2.2.2.1 h
    omega
theorem sa_nz (I : sa_Inv w s P L sh E nx T) {e n : Nat} (hn : n ≤ e) (he : e ≤ s) (h0 : n ≠ 0) : T e n ≠ 0 := by
  intro h
  have := (I.2.1 e n hn he).2.1
  rw [h, I.1.2.1] at this
  omega
theorem sa_LE (I : sa_Inv w s P L sh E nx T) {k : Nat} (hk : P k) : L k ≤ E k ∧ E k ≤ s := by
  by_cases h : k = 0
  · subst h
    rw [I.1.2.1, I.1.2.2.1]
    exact ⟨Nat.le_refl _, Nat.zero_le _⟩
  · obtain ⟨b1, b2, b3, b4, b5, b6⟩ := I.2.2.1 k hk h
    exact ⟨b3, b4⟩
theorem sa_in (I : sa_Inv w s P L sh E nx T) {e n m : Nat} (hn : n ≤ e) (he : e ≤ s) (h1 : T e n ≠ 0 → L (sh (T e n)) < m) (h2 : m ≤ L (T e n)) : T e m = T e n := by
  obtain ⟨a1, a2, a3, a4, a5, a6⟩ := I.2.1 e n hn he
  by_cases h : T e n = 0
  · rw [h, I.1.2.1] at h2
    have : m = 0 := by omega
    rw [this, sa_z I he, h]
  · obtain ⟨b1, b2, b3, b4, b5, b6⟩ := I.2.2.1 _ a1 h
    have := I.2.2.2.1 e (E (T e n)) m (by omega) (by omega) he b4 (sa_eq_m h2 a6)
    rw [this]
    exact b5 m (h1 h) h2
theorem sa_up (I : sa_Inv w s P L sh E nx T) {e n m : Nat} (hn : n ≤ e) (he : e ≤ s) (h1 : n ≤ m) (h2 : m ≤ L (T e n)) : T e m = T e n :=
  sa_in I hn he (fun h => Nat.lt_of_lt_of_le ((I.2.1 e n hn he).2.2.2.2.1 h) h1) h2
theorem sa_top (I : sa_Inv w s P L sh E nx T) {e n : Nat} (hn : n ≤ e) (he : e ≤ s) : T e (L (T e n)) = T e n :=
  sa_up I hn he (I.2.1 e n hn he).2.1 (Nat.le_refl _)
theorem sa_link (I : sa_Inv w s P L sh E nx T) {e n : Nat} (hn : n ≤ e) (he : e ≤ s) (h0 : T e n ≠ 0) : T e (L (sh (T e n))) = sh (T e n) := by
  obtain ⟨a1, a2, a3, a4, a5, a6⟩ := I.2.1 e n hn he
  obtain ⟨b1, b2, b3, b4, b5, b6⟩ := I.2.2.1 _ a1 h0
  have := I.2.2.2.1 e (E (T e n)) (L (sh (T e n))) (by omega) (by omega) he b4 (sa_eq_m (by omega) a6)
  rw [this]
  exact b6
theorem sa_same (I : sa_Inv w s P L sh E nx T) {e n f m : Nat} (hn : n ≤ e) (he : e ≤ s) (hm : m ≤ f) (hf : f ≤ s) (h : T e n = T f m) : sa_eq w e f (L (T e n)) := by
  have a := (I.2.1 e n hn he).2.2.2.2.2
  have b := (I.2.1 f m hm hf).2.2.2.2.2
  rw [← h] at b
  exact sa_eq_t a (sa_eq_s b)
theorem sa_noself (I : sa_Inv w s P L sh E nx T) {q c : Nat} (hq : P q) (h0 : q ≠ 0) (hc : c < 4) : nx q c ≠ q := by
  intro h
  obtain ⟨e, h1, h2, h3, h4⟩ := I.2.2.2.2.2 q c hq hc (by rw [h]; exact h0)
  have := I.2.2.2.2.1 e (L q) h3 h1
  rw [h4, h2, h] at this
  have a := (I.2.1 (e + 1) (L q + 1) (by omega) (by omega)).2.1
  rw [← this] at a
  omega
/-- a state's words are parted: the shorter ones, up to length l, get the state t of their own -/
theorem sa_split (I : sa_Inv w s P L sh E nx T) {q l t p c : Nat} {P2 : Nat → Prop} {L2 sh2 E2 : Nat → Nat} {nx2 T2 : Nat → Nat → Nat}
    (hq : P q) (h1 : L (sh q) < l) (h2 : l < L q) (ht : ¬ P t) (hp : P p) (hpl : L p + 1 = l) (hc : c < 4) (hpc : nx p c = q)
    (hP : ∀ k, P2 k ↔ P k ∨ k = t) (hLt : L2 t = l) (hL : ∀ k, P k → L2 k = L k) (hEt : E2 t = E q) (hE : ∀ k, P k → E2 k = E k)
    (hst : sh2 t = sh q) (hsq : sh2 q = t) (hs : ∀ k, P k → k ≠ q → sh2 k = sh k)
    (hnt : ∀ d, d < 4 → nx2 t d = nx q d) (hn1 : ∀ k d, P k → d < 4 → nx k d = q → L k < l → nx2 k d = t)
    (hn2 : ∀ k d, P k → d < 4 → ¬ (nx k d = q ∧ L k < l) → nx2 k d = nx k d)
    (hT1 : ∀ e n, T e n = q → n ≤ l → T2 e n = t) (hT2 : ∀ e n, ¬ (T e n = q ∧ n ≤ l) → T2 e n = T e n) : sa_Inv w s P2 L2 sh2 E2 nx2 T2 := by
  have q0 : q ≠ 0 := by
    intro h
    rw [h, I.1.2.1] at h2
    omega
  have nt : ∀ k, P k → k ≠ t := fun k hk h => ht (h ▸ hk)
  obtain ⟨g1, g2, g3, g4, g5, g6⟩ := I.2.2.1 q hq q0
  refine ⟨⟨(hP 0).mpr (Or.inl I.1.1), by rw [hL 0 I.1.1]; exact I.1.2.1, by rw [hE 0 I.1.1]; exact I.1.2.2.1, I.1.2.2.2⟩, ?_, ?_, ?_, ?_, ?_⟩
  · intro e n hn he
    obtain ⟨a1, a2, a3, a4, a5, a6⟩ := I.2.1 e n hn he
    by_cases h : T e n = q ∧ n ≤ l
    · rw [hT1 e n h.1 h.2, hLt, hEt, hst, hL _ g1]
      rw [h.1] at a2 a3 a4 a5 a6
      exact ⟨(hP t).mpr (Or.inr rfl), h.2, by omega, a4, fun _ => a5 q0, sa_eq_m (by omega) a6⟩
    · rw [hT2 e n h, hL _ a1, hE _ a1]
      refine ⟨(hP _).mpr (Or.inl a1), a2, a3, a4, fun h0 => ?_, a6⟩
      by_cases hh : T e n = q
      · rw [hh, hsq, hLt]
        have : ¬ n ≤ l := fun z => h ⟨hh, z⟩
        omega
      · rw [hs _ a1 hh, hL _ (I.2.2.1 _ a1 h0).1]
        exact a5 h0
  · intro k hk h0
    by_cases kt : k = t
    · subst kt
      rw [hst, hLt, hEt, hL _ g1]
      refine ⟨(hP _).mpr (Or.inl g1), h1, by omega, g4, fun n n1 n2 => hT1 _ _ (g5 n n1 (by omega)) n2, (hT2 _ _ (fun z => ?_)).trans g6⟩
      rw [g6] at z
      rw [z.1] at h1
      omega
    · have pk : P k := ((hP k).mp hk).resolve_right kt
      obtain ⟨b1, b2, b3, b4, b5, b6⟩ := I.2.2.1 k pk h0
      by_cases kq : k = q
      · subst kq
        rw [hsq, hLt, hE _ pk, hL _ pk]
        exact ⟨(hP _).mpr (Or.inr rfl), h2, b3, b4, fun n n1 n2 => (hT2 _ _ (fun z => by have := z.2; omega)).trans (b5 n (by omega) n2), hT1 _ _ (b5 l h1 (by omega)) (Nat.le_refl _)⟩
      · rw [hs k pk kq, hL _ pk, hE _ pk, hL _ b1]
        refine ⟨(hP _).mpr (Or.inl b1), b2, b3, b4, fun n n1 n2 => (hT2 _ _ (fun z => ?_)).trans (b5 n n1 n2), (hT2 _ _ (fun z => ?_)).trans b6⟩
        · rw [b5 n n1 n2] at z
          exact kq z.1
        · rw [b6] at z
          obtain ⟨z1, z2⟩ := z
          rw [z1] at z2
          omega
  · intro e f n hn hf he hf' h
    have := I.2.2.2.1 e f n hn hf he hf' h
    by_cases z : T e n = q ∧ n ≤ l
    · rw [hT1 e n z.1 z.2, hT1 f n (this.symm.trans z.1) z.2]
    · rw [hT2 e n z, hT2 f n (by rw [← this]; exact z), this]
  · intro e n hn he
    have j4 := I.2.2.2.2.1 e n hn he
    obtain ⟨a1, a2, a3, a4, a5, a6⟩ := I.2.1 e n hn (Nat.le_of_lt he)
    by_cases z : T e n = q ∧ n ≤ l
    · have y : ¬ (T (e + 1) (n + 1) = q ∧ n + 1 ≤ l) := by
        intro y
        rw [← j4, z.1] at y
        exact sa_noself I hq q0 (I.1.2.2.2 e) y.1
      rw [hT1 e n z.1 z.2, hnt _ (I.1.2.2.2 e), hT2 (e + 1) (n + 1) y, ← j4, z.1]
    · rw [hT2 e n z]
      by_cases y : nx (T e n) (w e) = q ∧ L (T e n) < l
      · rw [hn1 _ _ a1 (I.1.2.2.2 e) y.1 y.2, hT1 (e + 1) (n + 1) (j4.symm.trans y.1) (by have := y.2; omega)]
      · rw [hn2 _ _ a1 (I.1.2.2.2 e) y]
        refine j4.trans (hT2 (e + 1) (n + 1) (fun x => ?_)).symm
        obtain ⟨x1, x2⟩ := x
        rw [← j4] at x1
        have y2 : ¬ L (T e n) < l := fun v => y ⟨x1, v⟩
        have hk : T e (l - 1) = T e n := sa_up I hn (Nat.le_of_lt he) (by omega) (by omega)
        obtain ⟨e1, u1, u2, u3, u4⟩ := I.2.2.2.2.2 p c hp hc (by rw [hpc]; exact q0)
        have v := I.2.2.2.2.1 e1 (L p) u3 u1
        rw [u4, u2, hpc] at v
        have v2 : T (e + 1) (n + 1) = T (e1 + 1) (L p + 1) := by rw [← j4, x1, v]
        have v3 := sa_same I (by omega) (by omega) (by omega) (by omega) v2
        have v4 : L (T (e + 1) (n + 1)) = L q := by rw [← j4, x1]
        rw [v4] at v3
        have v5 := (sa_eq_1 (sa_eq_m (m := L p + 1) (by omega) v3)).2
        have v6 := I.2.2.2.1 e e1 (L p) (by omega) u3 (Nat.le_of_lt he) (by omega) v5
        have v7 : l - 1 = L p := by omega
        rw [v7, v6, u4] at hk
        rw [← hk] at y2
        omega
  · intro k d hk hd h
    by_cases kt : k = t
    · subst kt
      rw [hnt d hd] at h
      obtain ⟨e, u1, u2, u3, u4⟩ := I.2.2.2.2.2 q d hq hd h
      refine ⟨e, u1, u2, by rw [hLt]; omega, ?_⟩
      rw [hLt]
      refine hT1 e l ?_ (Nat.le_refl _)
      have := sa_in I (m := l) u3 (Nat.le_of_lt u1) (fun _ => by rw [u4]; exact h1) (by rw [u4]; omega)
      rw [this, u4]
    · have pk : P k := ((hP k).mp hk).resolve_right kt
      have h3 : nx k d ≠ 0 := by
        by_cases y : nx k d = q ∧ L k < l
        · rw [y.1]; exact q0
        · rw [hn2 k d pk hd y] at h; exact h
      obtain ⟨e, u1, u2, u3, u4⟩ := I.2.2.2.2.2 k d pk hd h3
      rw [hL k pk]
      refine ⟨e, u1, u2, u3, (hT2 _ _ (fun z => ?_)).trans u4⟩
      rw [u4] at z
      obtain ⟨z1, z2⟩ := z
      rw [z1] at z2
      omega
end
end
section
/-! one letter more at the end of the word -/
section
variable {w : Nat → Nat} {s : Nat} {P : Nat → Prop} {L sh E : Nat → Nat} {nx T : Nat → Nat → Nat}
theorem sa_append (I : sa_Inv w s P L sh E nx T) {w' : Nat → Nat} {c e0 l q m : Nat} {P2 : Nat → Prop} {L2 sh2 E2 : Nat → Nat} {nx2 T2 : Nat → Nat → Nat}
    (hw : ∀ j, j < s → w' j = w j) (hws : w' s = c) (hw4 : ∀ j, w' j < 4) (hl : l ≤ e0) (he0 : e0 ≤ s) (hq : T e0 l = q) (hLq : L q = l)
    (h0 : sa_eq w' e0 (s + 1) l) (hF : ∀ e, l + 1 ≤ e → e ≤ s → ¬ sa_eq w' e (s + 1) (l + 1)) (hm : ¬ P m)
    (hP : ∀ k, P2 k ↔ P k ∨ k = m) (hLm : L2 m = s + 1) (hL : ∀ k, P k → L2 k = L k) (hEm : E2 m = s + 1) (hE : ∀ k, P k → E2 k = E k)
    (hsm : sh2 m = q) (hs : ∀ k, P k → sh2 k = sh k)
    (hnm : ∀ d, d < 4 → nx2 m d = 0) (hn1 : ∀ k, P k → l ≤ L k → L k ≤ s → T s (L k) = k → nx2 k c = m)
    (hn2 : ∀ k d, P k → d < 4 → ¬ (d = c ∧ l ≤ L k ∧ L k ≤ s ∧ T s (L k) = k) → nx2 k d = nx k d)
    (hT1 : ∀ e n, e ≤ s → T2 e n = T e n) (hT2 : ∀ n, n ≤ l → T2 (s + 1) n = T e0 n) (hT3 : ∀ n, l < n → T2 (s + 1) n = m) : sa_Inv w' (s + 1) P2 L2 sh2 E2 nx2 T2 := by
  have hw2 : ∀ j, j < s → w j = w' j := fun j hj => (hw j hj).symm
  have nm : ∀ k, P k → k ≠ m := fun k hk h => hm (h ▸ hk)
  have aq := I.2.1 e0 l hl he0
  rw [hq] at aq
  have pq : P q := aq.1
  -- the states of the words up to length l at e0 have no longer words
  have hle : ∀ n, n ≤ l → L (T e0 n) ≤ l := by
    intro n hn
    refine Classical.byContradiction fun z => ?_
    have := sa_up I (e := e0) (n := n) (m := l) (by omega) he0 hn (by omega)
    rw [hq] at this
    rw [← this, hLq] at z
    omega
  refine ⟨⟨(hP 0).mpr (Or.inl I.1.1), by rw [hL 0 I.1.1]; exact I.1.2.1, by rw [hE 0 I.1.1]; exact I.1.2.2.1, hw4⟩, ?_, ?_, ?_, ?_, ?_⟩
  · intro e n hn he
    by_cases hes : e ≤ s
    · obtain ⟨a1, a2, a3, a4, a5, a6⟩ := I.2.1 e n hn hes
      have b := sa_LE I a1
      rw [hT1 e n hes, hL _ a1, hE _ a1]
      refine ⟨(hP _).mpr (Or.inl a1), a2, a3, a4, fun z => ?_, sa_eq_w hw hes b.2 a3 b.1 a6⟩
      rw [hs _ a1, hL _ (I.2.2.1 _ a1 z).1]
      exact a5 z
    · have es : e = s + 1 := by omega
      subst es
      by_cases nl : n ≤ l
      · obtain ⟨a1, a2, a3, a4, a5, a6⟩ := I.2.1 e0 n (by omega) he0
        have b := sa_LE I a1
        rw [hT2 n nl, hL _ a1, hE _ a1]
        refine ⟨(hP _).mpr (Or.inl a1), a2, by omega, by omega, fun z => ?_, ?_⟩
        · rw [hs _ a1, hL _ (I.2.2.1 _ a1 z).1]
          exact a5 z
        · exact sa_eq_t (sa_eq_s (sa_eq_m (hle n nl) h0)) (sa_eq_w hw he0 b.2 a3 b.1 a6)
      · rw [hT3 n (by omega), hLm, hEm, hsm, hL _ pq, hLq]
        exact ⟨(hP _).mpr (Or.inr rfl), hn, Nat.le_refl _, Nat.le_refl _, fun _ => by omega, sa_eq_r _ _ _⟩
  · intro k hk k0
    by_cases km : k = m
    · subst km
      rw [hLm, hEm, hsm, hL _ pq, hLq]
      exact ⟨(hP _).mpr (Or.inl pq), by omega, Nat.le_refl _, Nat.le_refl _, fun n n1 _ => hT3 n n1, (hT2 l (Nat.le_refl _)).trans hq⟩
    · have pk : P k := ((hP k).mp hk).resolve_right km
      obtain ⟨b1, b2, b3, b4, b5, b6⟩ := I.2.2.1 k pk k0
      rw [hs k pk, hL _ pk, hE _ pk, hL _ b1]
      exact ⟨(hP _).mpr (Or.inl b1), b2, b3, by omega, fun n n1 n2 => (hT1 _ _ b4).trans (b5 n n1 n2), (hT1 _ _ b4).trans b6⟩
  · have key : ∀ f n, n ≤ f → f ≤ s → sa_eq w' (s + 1) f n → T2 (s + 1) n = T2 f n := by
      intro f n nf hf h
      have nl : n ≤ l := Classical.byContradiction fun z =>
        hF f (by omega) hf (sa_eq_s (sa_eq_m (by omega) h))
      rw [hT2 n nl, hT1 f n hf]
      refine I.2.2.2.1 e0 f n (by omega) nf he0 hf (sa_eq_w hw2 he0 hf (by omega) nf ?_)
      exact sa_eq_t (sa_eq_m nl h0) h
    intro e f n ne nf he hf h
    by_cases hes : e ≤ s
    · by_cases hfs : f ≤ s
      · rw [hT1 e n hes, hT1 f n hfs]
        exact I.2.2.2.1 e f n ne nf hes hfs (sa_eq_w hw2 hes hfs ne nf h)
      · have fs : f = s + 1 := by omega
        subst fs
        exact (key e n ne hes (sa_eq_s h)).symm
    · have es : e = s + 1 := by omega
      subst es
      by_cases hfs : f ≤ s
      · exact key f n nf hfs h
      · have fs : f = s + 1 := by omega
        subst fs
        rfl
  · intro e n hn he
    by_cases hes : e = s
    · subst hes
      obtain ⟨a1, a2, a3, a4, a5, a6⟩ := I.2.1 e n hn (Nat.le_refl _)
      have top := sa_top I hn (Nat.le_refl e)
      rw [hT1 e n (Nat.le_refl _), hws]
      by_cases nl : n + 1 ≤ l
      · obtain ⟨e1, rfl⟩ : ∃ e1, e0 = e1 + 1 := ⟨e0 - 1, by omega⟩
        have u := sa_eq_1 (sa_eq_m nl h0)
        have x1 : T e1 n = T e n := I.2.2.2.1 e1 e n (by omega) hn (by omega) (Nat.le_refl _) (sa_eq_w hw2 (by omega) (Nat.le_refl _) (by omega) hn u.2)
        have x2 : ¬ l ≤ L (T e n) := by
          intro z
          have y1 : L (T e1 n) ≤ e1 := (I.2.1 e1 n (by omega) (by omega)).2.2.1
          have y2 := sa_same I (e := e1) (n := n) (f := e) (m := n) (by omega) (by omega) hn (Nat.le_refl _) x1
          rw [x1] at y1 y2
          have y3 := sa_eq_w hw (by omega) (Nat.le_refl _) y1 a3 y2
          exact hF (e1 + 1) (by omega) he0 (sa_eq_m (by omega) (sa_eq_2 u.1 y3))
        have x3 : w e1 = c := by rw [← hw e1 (by omega), u.1, hws]
        rw [hn2 _ _ a1 (hws ▸ hw4 e) (fun z => x2 z.2.1), hT2 (n + 1) nl, ← x1, ← x3]
        exact I.2.2.2.2.1 e1 n (by omega) (by omega)
      · rw [hT3 (n + 1) (by omega)]
        exact hn1 _ a1 (by omega) a3 top
    · have hes2 : e < s := by omega
      obtain ⟨a1, a2, a3, a4, a5, a6⟩ := I.2.1 e n hn (Nat.le_of_lt hes2)
      rw [hT1 e n (by omega), hT1 (e + 1) (n + 1) (by omega), hw e hes2]
      refine (hn2 _ _ a1 (I.1.2.2.2 e) (fun z => ?_)).trans (I.2.2.2.2.1 e n hn hes2)
      obtain ⟨z1, z2, z3, z4⟩ := z
      have y2 := sa_same I (e := e) (n := n) (f := s) (m := L (T e n)) hn (by omega) z3 (Nat.le_refl _) z4.symm
      have y3 := sa_eq_w hw (by omega) (Nat.le_refl _) a3 z3 y2
      have y4 : w' e = w' s := by rw [hw e hes2, z1, hws]
      exact hF (e + 1) (by omega) (by omega) (sa_eq_m (by omega) (sa_eq_2 y4 y3))
  · intro k d hk hd h
    by_cases km : k = m
    · subst km
      exact absurd (hnm d hd) h
    · have pk : P k := ((hP k).mp hk).resolve_right km
      rw [hL k pk]
      by_cases z : d = c ∧ l ≤ L k ∧ L k ≤ s ∧ T s (L k) = k
      · exact ⟨s, by omega, hws.trans z.1.symm, z.2.2.1, (hT1 _ _ (Nat.le_refl _)).trans z.2.2.2⟩
      · rw [hn2 k d pk hd z] at h
        obtain ⟨e, u1, u2, u3, u4⟩ := I.2.2.2.2.2 k d pk hd h
        exact ⟨e, by omega, (hw e u1).trans u2, u3, (hT1 _ _ (Nat.le_of_lt u1)).trans u4⟩
/-- the word of no letters -/
theorem sa_start {w : Nat → Nat} {L sh E : Nat → Nat} {nx : Nat → Nat → Nat} (hw : ∀ j, w j < 4) (hL : L 0 = 0) (hE : E 0 = 0) (hn : ∀ d, d < 4 → nx 0 d = 0) : sa_Inv w 0 (fun k => k < 1) L sh E nx (fun _ _ => 0) := by
  refine ⟨⟨Nat.one_pos, hL, hE, hw⟩, ?_, ?_, ?_, ?_, ?_⟩
  · intro e n hn he
    rw [hL, hE]
    exact ⟨Nat.one_pos, by omega, by omega, by omega, fun z => absurd rfl z, fun i hi => by omega⟩
  · intro k hk h0
    exact absurd (by omega) h0
  · intro e f n _ _ _ _ _
    rfl
  · intro e n _ he
    omega
  · intro k c hk hc h
    have : k = 0 := by omega
    subst this
    exact absurd (hn c hc) h
end
end
section
/-! counting the places below n at which f holds -/
noncomputable def cn_b (p : Prop) : Nat := @ite Nat p (Classical.propDecidable p) 1 0
theorem cn_b1 {p : Prop} (h : p) : cn_b p = 1 := by unfold cn_b; rw [if_pos h]
theorem cn_b0 {p : Prop} (h : ¬ p) : cn_b p = 0 := by unfold cn_b; rw [if_neg h]
noncomputable def cn_n (f : Nat → Prop) : Nat → Nat
  | 0 => 0
  | n + 1 => cn_n f n + cn_b (f n)
theorem cn_0 (f : Nat → Prop) : cn_n f 0 = 0 := rfl
theorem cn_t {f : Nat → Prop} {n : Nat} (h : f n) : cn_n f (n + 1) = cn_n f n + 1 := by
  show cn_n f n + cn_b (f n) = _
  rw [cn_b1 h]
theorem cn_f {f : Nat → Prop} {n : Nat} (h : ¬ f n) : cn_n f (n + 1) = cn_n f n := by
  show cn_n f n + cn_b (f n) = _
  rw [cn_b0 h]
  rfl
theorem cn_le (f : Nat → Prop) (n : Nat) : cn_n f n ≤ n := by
  induction n with
  | zero => exact Nat.le_refl _
  | succ n ih =>
    by_cases h : f n
    · rw [cn_t h]; omega
    · rw [cn_f h]; omega
theorem cn_congr {f g : Nat → Prop} {n : Nat} (h : ∀ i, i < n → (f i ↔ g i)) : cn_n f n = cn_n g n := by
  induction n with
  | zero => rfl
  | succ n ih =>
    have e := ih (fun i hi => h i (by omega))
    by_cases z : f n
    · rw [cn_t z, cn_t ((h n (by omega)).mp z), e]
    · rw [cn_f z, cn_f (fun y => z ((h n (by omega)).mpr y)), e]
theorem cn_mono {f g : Nat → Prop} {n : Nat} (h : ∀ i, i < n → f i → g i) : cn_n f n ≤ cn_n g n := by
  induction n with
  | zero => exact Nat.le_refl _
  | succ n ih =>
    have e := ih (fun i hi => h i (by omega))
    by_cases z : f n
    · rw [cn_t z, cn_t (h n (by omega) z)]; omega
    · rw [cn_f z]
      by_cases y : g n
      · rw [cn_t y]; omega
      · rw [cn_f y]; exact e
theorem cn_none {f : Nat → Prop} {n : Nat} (h : ∀ i, i < n → ¬ f i) : cn_n f n = 0 := by
  induction n with
  | zero => rfl
  | succ n ih => rw [cn_f (h n (by omega))]; exact ih (fun i hi => h i (by omega))
theorem cn_all {f : Nat → Prop} {n : Nat} (h : ∀ i, i < n → f i) : cn_n f n = n := by
  induction n with
  | zero => rfl
  | succ n ih => rw [cn_t (h n (by omega)), ih (fun i hi => h i (by omega))]
theorem cn_or {f g h : Nat → Prop} {n : Nat} (hh : ∀ i, i < n → (h i ↔ f i ∨ g i)) (hd : ∀ i, i < n → f i → ¬ g i) : cn_n h n = cn_n f n + cn_n g n := by
  induction n with
  | zero => rfl
  | succ n ih =>
    have e := ih (fun i hi => hh i (by omega)) (fun i hi => hd i (by omega))
    by_cases z : f n
    · rw [cn_t ((hh n (by omega)).mpr (Or.inl z)), cn_t z, cn_f (hd n (by omega) z), e]; omega
    · by_cases y : g n
      · rw [cn_t ((hh n (by omega)).mpr (Or.inr y)), cn_f z, cn_t y, e]; omega
      · have x : ¬ h n := fun x => ((hh n (by omega)).mp x).elim z y
        rw [cn_f x, cn_f z, cn_f y, e]
theorem cn_one {n a : Nat} (h : a < n) : cn_n (fun i => i = a) n = 1 := by
  induction n with
  | zero => omega
  | succ n ih =>
    by_cases z : n = a
    · rw [cn_t (f := fun i => i = a) z, cn_none (fun i hi y => by have y' : i = a := y; omega)]
    · rw [cn_f (f := fun i => i = a) z]; exact ih (by omega)
theorem cn_take {g : Nat → Prop} {n a : Nat} (h : a < n) (ha : g a) : cn_n g n = cn_n (fun i => g i ∧ i ≠ a) n + 1 := by
  rw [← cn_one h]
  refine cn_or (fun i _ => ?_) (fun i _ z => z.2)
  by_cases e : i = a
  · subst e
    exact ⟨fun _ => Or.inr rfl, fun _ => ha⟩
  · exact ⟨fun z => Or.inl ⟨z, e⟩, fun z => z.elim (fun y => y.1) (fun y => absurd y e)⟩
theorem cn_inj {f : Nat → Prop} (φ : Nat → Nat) : ∀ {n : Nat} {g : Nat → Prop} {m : Nat}, (∀ i, i < n → f i → φ i < m ∧ g (φ i)) → (∀ i j, i < n → j < n → f i → f j → φ i = φ j → i = j) → cn_n f n ≤ cn_n g m := by
  intro n
  induction n with
  | zero => intro g m _ _; exact Nat.zero_le _
  | succ n ih =>
    intro g m h1 h2
    by_cases z : f n
    · have a := h1 n (by omega) z
      rw [cn_t z, cn_take a.1 a.2]
      refine Nat.add_le_add_right (ih (fun i hi fi => ?_) (fun i j hi hj => h2 i j (by omega) (by omega))) 1
      have b := h1 i (by omega) fi
      refine ⟨b.1, b.2, fun e => ?_⟩
      have := h2 i n (by omega) (by omega) fi z e
      omega
    · rw [cn_f z]
      exact ih (fun i hi => h1 i (by omega)) (fun i j hi hj => h2 i j (by omega) (by omega))
theorem cn_bij {f g : Nat → Prop} {n m : Nat} (φ ψ : Nat → Nat) (h1 : ∀ i, i < n → f i → φ i < m ∧ g (φ i)) (h2 : ∀ j, j < m → g j → ψ j < n ∧ f (ψ j))
    (h3 : ∀ i, i < n → f i → ψ (φ i) = i) (h4 : ∀ j, j < m → g j → φ (ψ j) = j) : cn_n f n = cn_n g m := by
  refine Nat.le_antisymm (cn_inj φ h1 (fun i j hi hj fi fj e => ?_)) (cn_inj ψ h2 (fun i j hi hj gi gj e => ?_))
  · rw [← h3 i hi fi, ← h3 j hj fj, e]
  · rw [← h4 i hi gi, ← h4 j hj gj, e]
/-- if f lies in g and has as many places then they are the same -/
theorem cn_same {f g : Nat → Prop} {n : Nat} (h : ∀ i, i < n → f i → g i) (he : cn_n g n ≤ cn_n f n) : ∀ i, i < n → g i → f i := by
  intro i hi gi
  refine Classical.byContradiction fun z => ?_
  have a := cn_take hi gi
  have b : cn_n f n ≤ cn_n (fun j => g j ∧ j ≠ i) n := cn_mono (fun j hj fj => ⟨h j hj fj, fun e => z (e ▸ fj)⟩)
  omega
/-- a full injection into m numbers reaches all of them -/
theorem cn_onto {f : Nat → Prop} {n m : Nat} (φ : Nat → Nat) (h1 : ∀ i, i < n → f i → φ i < m) (h2 : ∀ i j, i < n → j < n → f i → f j → φ i = φ j → i = j) (he : m ≤ cn_n f n) : ∀ j, j < m → ∃ i, i < n ∧ f i ∧ φ i = j := by
  intro j hj
  have a : cn_n f n ≤ cn_n (fun j => ∃ i, i < n ∧ f i ∧ φ i = j) m := cn_inj φ (fun i hi fi => ⟨h1 i hi fi, i, hi, fi, rfl⟩) h2
  refine cn_same (n := m) (g := fun _ => True) (f := fun j => ∃ i, i < n ∧ f i ∧ φ i = j) (fun _ _ _ => trivial) ?_ j hj trivial
  rw [cn_all (fun _ _ => trivial)]
  omega
theorem cn_two {f : Nat → Prop} {n : Nat} (h : 2 ≤ cn_n f n) : ∃ i j, i < j ∧ j < n ∧ f i ∧ f j := by
  induction n with
  | zero => rw [cn_0] at h; omega
  | succ n ih =>
    by_cases z : f n
    · rw [cn_t z] at h
      refine Classical.byContradiction fun y => ?_
      have : cn_n f n = 0 := cn_none (fun i hi fi => y ⟨i, n, hi, by omega, fi, z⟩)
      omega
    · rw [cn_f z] at h
      obtain ⟨i, j, a, b, c, d⟩ := ih h
      exact ⟨i, j, a, by omega, c, d⟩
theorem cn_ge2 {f : Nat → Prop} {n i j : Nat} (hi : i < j) (hj : j < n) (fi : f i) (fj : f j) : 2 ≤ cn_n f n := by
  rw [cn_take hj fj, cn_take (g := fun k => f k ∧ k ≠ j) (a := i) (by omega) ⟨fi, by omega⟩]
  omega
theorem cn_shift {f g : Nat → Prop} {a n : Nat} (h0 : ∀ i, i < a → ¬ f i) (h : ∀ i, i < n → (g i ↔ f (a + i))) : cn_n f (a + n) = cn_n g n := by
  induction n with
  | zero => exact cn_none h0
  | succ n ih =>
    have e := ih (fun i hi => h i (by omega))
    by_cases z : g n
    · have y : f (a + n) := (h n (by omega)).mp z
      rw [cn_t z, ← e]
      exact cn_t y
    · have y : ¬ f (a + n) := fun y => z ((h n (by omega)).mpr y)
      rw [cn_f z, ← e]
      exact cn_f y
/-- sums -/
def sm_m (f : Nat → Nat) : Nat → Nat
  | 0 => 0
  | n + 1 => sm_m f n + f n
theorem sm_m_congr {f g : Nat → Nat} {n : Nat} (h : ∀ i, i < n → f i = g i) : sm_m f n = sm_m g n := by
  induction n with
  | zero => rfl
  | succ n ih =>
    show sm_m f n + f n = sm_m g n + g n
    rw [ih (fun i hi => h i (by omega)), h n (by omega)]
theorem sm_m_add (f g : Nat → Nat) (n : Nat) : sm_m (fun i => f i + g i) n = sm_m f n + sm_m g n := by
  induction n with
  | zero => rfl
  | succ n ih =>
    show sm_m (fun i => f i + g i) n + (f n + g n) = sm_m f n + f n + (sm_m g n + g n)
    rw [ih]; omega
theorem sm_m_0 (n : Nat) : sm_m (fun _ => 0) n = 0 := by
  induction n with
  | zero => rfl
  | succ n ih => exact ih
theorem cn_sm (f : Nat → Prop) (n : Nat) : cn_n f n = sm_m (fun i => cn_b (f i)) n := by
  induction n with
  | zero => rfl
  | succ n ih =>
    show cn_n f n + cn_b (f n) = sm_m (fun i => cn_b (f i)) n + cn_b (f n)
    rw [ih]
/-- the two orders of adding up a table -/
theorem sm_swap (F : Nat → Nat → Nat) (n m : Nat) : sm_m (fun i => sm_m (fun j => F i j) m) n = sm_m (fun j => sm_m (fun i => F i j) n) m := by
  induction n with
  | zero => exact (sm_m_0 m).symm
  | succ n ih =>
    show sm_m (fun i => sm_m (fun j => F i j) m) n + sm_m (fun j => F n j) m = sm_m (fun j => sm_m (fun i => F i j) n + F n j) m
    rw [ih, sm_m_add]
theorem cn_swap (R : Nat → Nat → Prop) (n m : Nat) : sm_m (fun i => cn_n (fun j => R i j) m) n = sm_m (fun j => cn_n (fun i => R i j) n) m := by
  have a : sm_m (fun i => cn_n (fun j => R i j) m) n = sm_m (fun i => sm_m (fun j => cn_b (R i j)) m) n := sm_m_congr (fun i _ => cn_sm _ _)
  have b : sm_m (fun j => cn_n (fun i => R i j) n) m = sm_m (fun j => sm_m (fun i => cn_b (R i j)) n) m := sm_m_congr (fun i _ => cn_sm _ _)
  rw [a, b]
  exact sm_swap (fun i j => cn_b (R i j)) n m
/-- how many numbers below n lie above a, up to b -/
theorem cn_iv {a b n : Nat} (hb : b < n) (hab : a ≤ b) : cn_n (fun i => a < i ∧ i ≤ b) n = b - a := by
  induction n with
  | zero => omega
  | succ n ih =>
    by_cases z : n = b
    · have key : ∀ m, m ≤ b + 1 → a + 1 ≤ m → cn_n (fun i => a < i ∧ i ≤ b) m = m - a - 1 := by
        intro m
        induction m with
        | zero => intro _ h; omega
        | succ m ihm =>
          intro h1 h2
          by_cases y : a + 1 ≤ m
          · rw [cn_t (f := fun i => a < i ∧ i ≤ b) ⟨by omega, by omega⟩, ihm (by omega) y]; omega
          · rw [cn_f (f := fun i => a < i ∧ i ≤ b) (fun x => by have := x.1; omega), cn_none (fun i hi x => by have := x.1; omega)]; omega
      subst z
      rw [key (n + 1) (by omega) (by omega)]
      omega
    · rw [cn_f (fun x => by have := x.2; omega)]
      exact ih (by omega)
end
section
/-! stretches of the target in the source, and the automaton's answers about them -/
def wd_st (w tg : Nat → Nat) (k i n : Nat) : Prop := ∀ x, x < n → w (k + x) = tg (i + x)
def wd_F (w tg : Nat → Nat) (s i n : Nat) : Prop := ∃ k, k + n ≤ s ∧ wd_st w tg k i n
theorem wd_st0 (w tg : Nat → Nat) (k i : Nat) : wd_st w tg k i 0 := fun x hx => by omega
theorem wd_stS {w tg : Nat → Nat} {k i n : Nat} (h : wd_st w tg k i n) (e : w (k + n) = tg (i + n)) : wd_st w tg k i (n + 1) := by
  intro x hx
  by_cases z : x = n
  · rw [z]; exact e
  · exact h x (by omega)
theorem wd_stm {w tg : Nat → Nat} {k i n m : Nat} (hm : m ≤ n) (h : wd_st w tg k i n) : wd_st w tg k i m := fun x hx => h x (by omega)
theorem wd_F0 (w tg : Nat → Nat) (s i : Nat) : wd_F w tg s i 0 := ⟨0, by omega, wd_st0 w tg 0 i⟩
theorem wd_Fm {w tg : Nat → Nat} {s i n m : Nat} (hm : m ≤ n) (h : wd_F w tg s i n) : wd_F w tg s i m := by
  obtain ⟨k, h1, h2⟩ := h
  exact ⟨k, by omega, wd_stm hm h2⟩
theorem wd_Fs {w tg : Nat → Nat} {s i a n : Nat} (h : wd_F w tg s i (a + n)) : wd_F w tg s (i + a) n := by
  obtain ⟨k, h1, h2⟩ := h
  refine ⟨k + a, by omega, fun x hx => ?_⟩
  have := h2 (a + x) (by omega)
  rw [Nat.add_assoc, Nat.add_assoc]
  exact this
theorem wd_eq {w tg : Nat → Nat} {k k' i n : Nat} (h : wd_st w tg k i n) (h' : wd_st w tg k' i n) : sa_eq w (k + n) (k' + n) n := by
  intro j hj
  have a : k + n - 1 - j = k + (n - 1 - j) := by omega
  have b : k' + n - 1 - j = k' + (n - 1 - j) := by omega
  rw [a, b, h _ (by omega), h' _ (by omega)]
theorem wd_qe {w tg : Nat → Nat} {k k' i n : Nat} (h : sa_eq w (k + n) (k' + n) n) (h' : wd_st w tg k i n) : wd_st w tg k' i n := by
  intro x hx
  have := h (n - 1 - x) (by omega)
  have a : k + n - 1 - (n - 1 - x) = k + x := by omega
  have b : k' + n - 1 - (n - 1 - x) = k' + x := by omega
  rw [a, b] at this
  rw [← this]
  exact h' x hx
/-- the greatest number up to b at which F holds -/
noncomputable def wd_go (F : Nat → Prop) : Nat → Nat
  | 0 => 0
  | n + 1 => @ite Nat (F (n + 1)) (Classical.propDecidable _) (n + 1) (wd_go F n)
theorem wd_go_t {F : Nat → Prop} {n : Nat} (h : F (n + 1)) : wd_go F (n + 1) = n + 1 := by
  rw [wd_go, if_pos h]
theorem wd_go_f {F : Nat → Prop} {n : Nat} (h : ¬ F (n + 1)) : wd_go F (n + 1) = wd_go F n := by
  rw [wd_go, if_neg h]
theorem wd_go_le (F : Nat → Prop) (n : Nat) : wd_go F n ≤ n := by
  induction n with
  | zero => exact Nat.le_refl _
  | succ n ih =>
    by_cases h : F (n + 1)
    · rw [wd_go_t h]; omega
    · rw [wd_go_f h]; omega
theorem wd_go_F {F : Nat → Prop} (h0 : F 0) (n : Nat) : F (wd_go F n) := by
  induction n with
  | zero => exact h0
  | succ n ih =>
    by_cases h : F (n + 1)
    · rw [wd_go_t h]; exact h
    · rw [wd_go_f h]; exact ih
theorem wd_go_max {F : Nat → Prop} {n m : Nat} (hm : m ≤ n) (h : F m) : m ≤ wd_go F n := by
  induction n with
  | zero => omega
  | succ n ih =>
    by_cases z : F (n + 1)
    · rw [wd_go_t z]; omega
    · rw [wd_go_f z]
      by_cases e : m = n + 1
      · exact absurd (e ▸ h) z
      · exact ih (by omega)
/-- the longest stretch from place i that occurs -/
noncomputable def wd_lf (w tg : Nat → Nat) (s t i : Nat) : Nat := wd_go (fun n => wd_F w tg s i n) (t - i)
theorem wd_lf_le (w tg : Nat → Nat) (s t i : Nat) : wd_lf w tg s t i ≤ t - i := wd_go_le _ _
theorem wd_lf_F (w tg : Nat → Nat) (s t i : Nat) : wd_F w tg s i (wd_lf w tg s t i) := wd_go_F (F := fun n => wd_F w tg s i n) (wd_F0 w tg s i) _
theorem wd_lf_max {w tg : Nat → Nat} {s t i n : Nat} (hn : n ≤ t - i) (h : wd_F w tg s i n) : n ≤ wd_lf w tg s t i := wd_go_max (F := fun n => wd_F w tg s i n) hn h
theorem wd_lf_eq {w tg : Nat → Nat} {s t i n : Nat} (hn : n ≤ t - i) (h : wd_F w tg s i n) (hx : n = t - i ∨ ¬ wd_F w tg s i (n + 1)) : wd_lf w tg s t i = n := by
  have a := wd_lf_max hn h
  have b := wd_lf_le w tg s t i
  rcases hx with hx | hx
  · omega
  · refine Nat.le_antisymm (Classical.byContradiction fun z => hx ?_) a
    exact wd_Fm (by omega) (wd_lf_F w tg s t i)
/-- the step to the next piece, and the places where pieces begin -/
noncomputable def wd_sg (w tg : Nat → Nat) (s t i : Nat) : Nat := if wd_lf w tg s t i = 0 then 1 else wd_lf w tg s t i
noncomputable def wd_bg (w tg : Nat → Nat) (s t : Nat) : Nat → Nat
  | 0 => 0
  | p + 1 => if wd_bg w tg s t p < t then wd_bg w tg s t p + wd_sg w tg s t (wd_bg w tg s t p) else wd_bg w tg s t p
theorem wd_bg_t {w tg : Nat → Nat} {s t p : Nat} (h : wd_bg w tg s t p < t) : wd_bg w tg s t (p + 1) = wd_bg w tg s t p + wd_sg w tg s t (wd_bg w tg s t p) := by
  rw [wd_bg, if_pos h]
theorem wd_bg_f {w tg : Nat → Nat} {s t p : Nat} (h : ¬ wd_bg w tg s t p < t) : wd_bg w tg s t (p + 1) = wd_bg w tg s t p := by
  rw [wd_bg, if_neg h]
theorem wd_sg_1 (w tg : Nat → Nat) (s t i : Nat) : 1 ≤ wd_sg w tg s t i := by
  unfold wd_sg
  split <;> omega
theorem wd_sg_le {w tg : Nat → Nat} {s t i : Nat} (h : i < t) : i + wd_sg w tg s t i ≤ t := by
  have := wd_lf_le w tg s t i
  unfold wd_sg
  split <;> omega
theorem wd_bg_le (w tg : Nat → Nat) (s t p : Nat) : wd_bg w tg s t p ≤ t := by
  induction p with
  | zero => exact Nat.zero_le _
  | succ p ih =>
    by_cases h : wd_bg w tg s t p < t
    · rw [wd_bg_t h]; exact wd_sg_le h
    · rw [wd_bg_f h]; exact ih
theorem wd_bg_st {w tg : Nat → Nat} {s t p : Nat} (h : t ≤ wd_bg w tg s t p) : ∀ q, p ≤ q → wd_bg w tg s t q = wd_bg w tg s t p := by
  intro q
  induction q with
  | zero => intro hq; rw [show p = 0 from by omega]
  | succ q ih =>
    intro hq
    by_cases z : p ≤ q
    · have e := ih z
      rw [wd_bg_f (by omega), e]
    · rw [show p = q + 1 from by omega]
theorem wd_bg_ge {w tg : Nat → Nat} {s t p : Nat} (h : wd_bg w tg s t p < t) : p ≤ wd_bg w tg s t p := by
  induction p with
  | zero => exact Nat.zero_le _
  | succ p ih =>
    have h2 : wd_bg w tg s t p < t := Classical.byContradiction fun z => by
      rw [wd_bg_f z] at h
      exact z h
    rw [wd_bg_t h2]
    have := ih h2
    have := wd_sg_1 w tg s t (wd_bg w tg s t p)
    omega
/-- what lies further ahead reaches at least as far -/
theorem wd_sg_mono {w tg : Nat → Nat} {s t i j : Nat} (hij : i ≤ j) (hj : j < t) : i + wd_sg w tg s t i ≤ j + wd_sg w tg s t j := by
  have a1 := wd_sg_1 w tg s t j
  by_cases h : i + wd_lf w tg s t i ≤ j
  · have : wd_sg w tg s t i ≤ wd_lf w tg s t i + 1 := by
      unfold wd_sg
      split <;> omega
    omega
  · have hl := wd_lf_le w tg s t i
    have f := wd_lf_F w tg s t i
    rw [show wd_lf w tg s t i = (j - i) + (i + wd_lf w tg s t i - j) from by omega] at f
    have g := wd_Fs f
    rw [show i + (j - i) = j from by omega] at g
    have m := wd_lf_max (t := t) (by omega) g
    have e1 : wd_sg w tg s t i = wd_lf w tg s t i := by
      unfold wd_sg
      split <;> omega
    have e2 : wd_lf w tg s t j ≤ wd_sg w tg s t j := by
      unfold wd_sg
      split <;> omega
    omega
/-- how many pieces there are -/
theorem wd_pc (w tg : Nat → Nat) (s t : Nat) (ht : t ≤ 24) : ∃ r, r ≤ 24 ∧ wd_bg w tg s t r = t ∧ ∀ p, p < r → wd_bg w tg s t p < t := by
  have h : ∃ r, ¬ wd_bg w tg s t r < t := ⟨t, fun z => by have := wd_bg_ge z; omega⟩
  obtain ⟨r, h1, h2⟩ := pk_least (fun r => ¬ wd_bg w tg s t r < t) h
  have h3 : ∀ p, p < r → wd_bg w tg s t p < t := fun p hp => Classical.byContradiction fun z => h2 p hp z
  have h4 := wd_bg_le w tg s t r
  refine ⟨r, ?_, by omega, h3⟩
  cases r with
  | zero => omega
  | succ r =>
    have := wd_bg_ge (h3 r (by omega))
    have := h3 r (by omega)
    omega
/-- two ways of reckoning the least cost of a cut -/
theorem dp_eq {R : Nat → Nat → Nat → Prop} {cX cY : Nat → Nat} {t : Nat} (x0 : cX t = 0) (x1 : ∀ i j c, i < j → j ≤ t → R i j c → cX i ≤ cX j + c)
    (x2 : ∀ i, i < t → ∃ j c, i < j ∧ j ≤ t ∧ R i j c ∧ cX i = cX j + c) (y0 : cY 0 = 0) (y1 : ∀ i j c, i < j → j ≤ t → R i j c → cY j ≤ cY i + c)
    (y2 : ∀ j, 0 < j → j ≤ t → ∃ i c, i < j ∧ R i j c ∧ cY j = cY i + c) : cX 0 = cY t := by
  have A : ∀ i, i ≤ t → cX 0 ≤ cX i + cY i := by
    intro i
    induction i using Nat.strongRecOn with
    | ind i ih =>
      intro hi
      by_cases z : i = 0
      · subst z; omega
      · obtain ⟨j, c, h1, h2, h3⟩ := y2 i (by omega) hi
        have a := ih j h1 (by omega)
        have b := x1 j i c h1 hi h2
        omega
  have B : ∀ d i, i + d = t → cY t ≤ cY i + cX i := by
    intro d
    induction d using Nat.strongRecOn with
    | ind d ih =>
      intro i hi
      by_cases z : i = t
      · subst z; omega
      · obtain ⟨j, c, h1, h2, h3, h4⟩ := x2 i (by omega)
        have a := ih (t - j) (by omega) j (by omega)
        have b := y1 i j c h1 h2 h3
        omega
  have a := A t (Nat.le_refl _)
  have b := B t 0 (by omega)
  omega
def dp_R (w tg : Nat → Nat) (s copy add : Nat) (i j c : Nat) : Prop := (j = i + 1 ∧ c = add) ∨ (wd_F w tg s i (j - i) ∧ c = copy)
def dp_Y (w tg : Nat → Nat) (s copy add : Nat) (cY : Nat → Nat) (t : Nat) : Prop :=
  cY 0 = 0 ∧ (∀ i j c, i < j → j ≤ t → dp_R w tg s copy add i j c → cY j ≤ cY i + c) ∧ (∀ j, 0 < j → j ≤ t → ∃ i c, i < j ∧ dp_R w tg s copy add i j c ∧ cY j = cY i + c) ∧ ∀ j, j ≤ t → cY j ≤ 100 * j
def dp_X (w tg : Nat → Nat) (s t copy add : Nat) (cX : Nat → Nat) (i0 : Nat) : Prop :=
  cX t = 0 ∧ (∀ i j c, i0 ≤ i → i < j → j ≤ t → dp_R w tg s copy add i j c → cX i ≤ cX j + c) ∧ (∀ i, i0 ≤ i → i < t → ∃ j c, i < j ∧ j ≤ t ∧ dp_R w tg s copy add i j c ∧ cX i = cX j + c) ∧ ∀ j, i0 ≤ j → j ≤ t → cX j ≤ 100 * (t - j)
theorem dp_XY {w tg : Nat → Nat} {s t copy add : Nat} {cX cY : Nat → Nat} (hX : dp_X w tg s t copy add cX 0) (hY : dp_Y w tg s copy add cY t) : cX 0 = cY t :=
  dp_eq hX.1 (fun i j c => hX.2.1 i j c (Nat.zero_le _)) (fun i => hX.2.2.1 i (Nat.zero_le _)) hY.1 hY.2.1 hY.2.2.1
/-- the cut into longest pieces has the fewest -/
theorem dp_few {w tg : Nat → Nat} {s t r : Nat} {cY : Nat → Nat} (hY : dp_Y w tg s 1 1 cY t) (hr : wd_bg w tg s t r = t) (hp : ∀ p, p < r → wd_bg w tg s t p < t) : cY t = r := by
  obtain ⟨y0, y1, y2, y3⟩ := hY
  have A : ∀ j, j ≤ t → ∀ p, wd_bg w tg s t p < j → p + 1 ≤ cY j := by
    intro j
    induction j using Nat.strongRecOn with
    | ind j ih =>
      intro hj p hp
      obtain ⟨i, c, h1, h2, h3⟩ := y2 j (by omega) hj
      have c1 : c = 1 := by rcases h2 with h | h <;> exact h.2
      cases p with
      | zero => omega
      | succ p =>
        have hb : wd_bg w tg s t p < t := Classical.byContradiction fun z => by
          rw [wd_bg_f z] at hp
          omega
        rw [wd_bg_t hb] at hp
        have : wd_bg w tg s t p < i := by
          refine Classical.byContradiction fun z => ?_
          have m := wd_sg_mono (w := w) (tg := tg) (s := s) (t := t) (i := i) (j := wd_bg w tg s t p) (by omega) hb
          have k : j ≤ i + wd_sg w tg s t i := by
            rcases h2 with h | h
            · have := wd_sg_1 w tg s t i
              omega
            · have := wd_lf_max (t := t) (by omega) h.1
              have e : wd_lf w tg s t i ≤ wd_sg w tg s t i := by
                unfold wd_sg
                split <;> omega
              omega
          omega
        have := ih i h1 (by omega) p this
        omega
  have B : ∀ p, p ≤ r → cY (wd_bg w tg s t p) ≤ p := by
    intro p
    induction p with
    | zero => intro _; rw [show wd_bg w tg s t 0 = 0 from rfl, y0]; omega
    | succ p ih =>
      intro h
      have a := ih (by omega)
      have hb := hp p (by omega)
      have g1 := wd_sg_1 w tg s t (wd_bg w tg s t p)
      have g2 := wd_sg_le (w := w) (tg := tg) (s := s) hb
      have b := y1 (wd_bg w tg s t p) (wd_bg w tg s t p + wd_sg w tg s t (wd_bg w tg s t p)) 1 (by omega) g2 ?_
      · rw [wd_bg_t hb]; omega
      · by_cases z : wd_lf w tg s t (wd_bg w tg s t p) = 0
        · left
          refine ⟨?_, rfl⟩
          unfold wd_sg
          rw [if_pos z]
        · right
          refine ⟨?_, rfl⟩
          have e : wd_sg w tg s t (wd_bg w tg s t p) = wd_lf w tg s t (wd_bg w tg s t p) := by
            unfold wd_sg
            rw [if_neg z]
          rw [e, Nat.add_sub_cancel_left]
          exact wd_lf_F w tg s t _
  have b := B r (Nat.le_refl _)
  rw [hr] at b
  cases r with
  | zero => omega
  | succ r =>
    have := A t (Nat.le_refl _) r (hp r (by omega))
    omega
end
section
/-! what the automaton tells -/
section
variable {w : Nat → Nat} {s N : Nat} {L sh E : Nat → Nat} {nx T : Nat → Nat → Nat}
theorem qu_s1 (I : sa_Inv w s (fun k => k < N) L sh E nx T) {e n d : Nat} (hn : n ≤ e) (he : e ≤ s) (hd : d < 4) (h : nx (T e n) d ≠ 0) : ∃ f, f < s ∧ n ≤ f ∧ w f = d ∧ sa_eq w f e n ∧ nx (T e n) d = T (f + 1) (n + 1) := by
  obtain ⟨a1, a2, a3, a4, a5, a6⟩ := I.2.1 e n hn he
  obtain ⟨f, u1, u2, u3, u4⟩ := I.2.2.2.2.2 _ d a1 hd h
  have u5 : sa_eq w f e (L (T e n)) := by
    have := sa_same I u3 (Nat.le_of_lt u1) hn he u4
    rw [u4] at this
    exact this
  have u6 := I.2.2.2.1 f e n (by omega) hn (Nat.le_of_lt u1) he (sa_eq_m a2 u5)
  have u7 := I.2.2.2.2.1 f n (by omega) u1
  rw [u6, u2] at u7
  exact ⟨f, u1, by omega, u2, sa_eq_m a2 u5, u7⟩
theorem qu_s0 (I : sa_Inv w s (fun k => k < N) L sh E nx T) {e n f : Nat} (hn : n ≤ e) (he : e ≤ s) (hf : f < s) (hnf : n ≤ f) (h : sa_eq w f e n) : nx (T e n) (w f) = T (f + 1) (n + 1) ∧ nx (T e n) (w f) ≠ 0 := by
  have u6 := I.2.2.2.1 f e n hnf hn (Nat.le_of_lt hf) he h
  have u7 := I.2.2.2.2.1 f n hnf hf
  rw [u6] at u7
  exact ⟨u7, by rw [u7]; exact sa_nz I (by omega) (by omega) (by omega)⟩
/-- reading one letter of the target -/
theorem qu_rd1 (I : sa_Inv w s (fun k => k < N) L sh E nx T) {tg : Nat → Nat} {k i n : Nat} (hk : k + n ≤ s) (h : wd_st w tg k i n) (hd : tg (i + n) < 4) (hx : nx (T (k + n) n) (tg (i + n)) ≠ 0) :
    ∃ j, j + (n + 1) ≤ s ∧ wd_st w tg j i (n + 1) ∧ nx (T (k + n) n) (tg (i + n)) = T (j + (n + 1)) (n + 1) := by
  obtain ⟨f, u1, u2, u3, u4, u5⟩ := qu_s1 I (Nat.le_add_left n k) hk hd hx
  have e : f = f - n + n := by omega
  rw [e] at u4
  have g := wd_qe (sa_eq_s u4) h
  refine ⟨f - n, by omega, wd_stS g ?_, ?_⟩
  · rw [← e]; exact u3
  · rw [u5, show f - n + (n + 1) = f + 1 from by omega]
theorem qu_rd0 (I : sa_Inv w s (fun k => k < N) L sh E nx T) {tg : Nat → Nat} {k i n : Nat} (hk : k + n ≤ s) (h : wd_st w tg k i n) (hx : nx (T (k + n) n) (tg (i + n)) = 0) : ¬ wd_F w tg s i (n + 1) := by
  intro z
  obtain ⟨j, h1, h2⟩ := z
  have h3 := wd_stm (Nat.le_succ n) h2
  have h4 := wd_eq h3 h
  have := (qu_s0 I (Nat.le_add_left n k) hk (f := j + n) (by omega) (by omega) h4).2
  rw [h2 n (by omega)] at this
  exact this hx
/-- a longer state follows -/
theorem qu_len (I : sa_Inv w s (fun k => k < N) L sh E nx T) {k c : Nat} (hk : k < N) (hc : c < 4) (h : nx k c ≠ 0) : nx k c < N ∧ L k < L (nx k c) := by
  obtain ⟨e, u1, u2, u3, u4⟩ := I.2.2.2.2.2 k c hk hc h
  have u5 := I.2.2.2.2.1 e (L k) u3 u1
  rw [u4, u2] at u5
  have := I.2.1 (e + 1) (L k + 1) (by omega) (by omega)
  rw [← u5] at this
  exact ⟨this.1, by have := this.2.1; omega⟩
/-- the first place of a word -/
def qu_fst (w : Nat → Nat) (n e : Nat) : Prop := n ≤ e ∧ ∀ f, n ≤ f → f < e → ¬ sa_eq w f e n
noncomputable def qu_wo (w : Nat → Nat) (s n : Nat) : Nat := cn_n (qu_fst w n) (s + 1)
theorem qu_words (I : sa_Inv w s (fun k => k < N) L sh E nx T) {n : Nat} (hn : 1 ≤ n) : cn_n (fun k => k ≠ 0 ∧ L (sh k) < n ∧ n ≤ L k) N = qu_wo w s n := by
  refine cn_bij E (fun e => T e n) ?_ ?_ ?_ ?_
  · rintro k hk ⟨k0, h1, h2⟩
    obtain ⟨b1, b2, b3, b4, b5, b6⟩ := I.2.2.1 k hk k0
    refine ⟨by omega, by omega, fun f hf hlt z => ?_⟩
    have := I.2.2.2.1 f (E k) n hf (by omega) (by omega) b4 z
    rw [b5 n h1 h2] at this
    have := (I.2.1 f n hf (by omega)).2.2.2.1
    simp only [‹T f n = k›] at this
    omega
  · rintro e he ⟨h1, h2⟩
    obtain ⟨a1, a2, a3, a4, a5, a6⟩ := I.2.1 e n h1 (by omega)
    have z := sa_nz I h1 (show e ≤ s by omega) (by omega)
    exact ⟨a1, z, a5 z, a2⟩
  · rintro k hk ⟨k0, h1, h2⟩
    exact (I.2.2.1 k hk k0).2.2.2.2.1 n h1 h2
  · rintro e he ⟨h1, h2⟩
    obtain ⟨a1, a2, a3, a4, a5, a6⟩ := I.2.1 e n h1 (by omega)
    have b := sa_LE I a1
    refine Classical.byContradiction fun z => ?_
    exact h2 (E (T e n)) (by omega) (by omega) (sa_eq_s (sa_eq_m a2 a6))
/-- at how many places the words of a state stand -/
noncomputable def qu_oc (s : Nat) (L : Nat → Nat) (T : Nat → Nat → Nat) (k : Nat) : Nat := cn_n (fun e => L k ≤ e ∧ T e (L k) = k) (s + 1)
theorem qu_at (I : sa_Inv w s (fun k => k < N) L sh E nx T) {e n f : Nat} (hn : n ≤ e) (he : e ≤ s) (hf : f ≤ s) : (n ≤ f ∧ sa_eq w f e n) ↔ (L (T e n) ≤ f ∧ T f (L (T e n)) = T e n) := by
  obtain ⟨a1, a2, a3, a4, a5, a6⟩ := I.2.1 e n hn he
  constructor
  · rintro ⟨h1, h2⟩
    have h3 := I.2.2.2.1 f e n h1 hn hf he h2
    have h4 := I.2.1 f n h1 hf
    have h5 := sa_top I h1 hf
    rw [h3] at h4 h5
    exact ⟨h4.2.2.1, h5⟩
  · rintro ⟨h1, h2⟩
    have := sa_same I h1 hf hn he h2
    rw [h2] at this
    exact ⟨by omega, sa_eq_m a2 this⟩
theorem qu_occ (I : sa_Inv w s (fun k => k < N) L sh E nx T) {tg : Nat → Nat} {k i n : Nat} (hk : k + n ≤ s) (h : wd_st w tg k i n) : cn_n (fun j => j + n ≤ s ∧ wd_st w tg j i n) (s + 1) = qu_oc s L T (T (k + n) n) := by
  unfold qu_oc
  have a : cn_n (fun e => L (T (k + n) n) ≤ e ∧ T e (L (T (k + n) n)) = T (k + n) n) (s + 1) = cn_n (fun e => n ≤ e ∧ sa_eq w e (k + n) n) (s + 1) :=
    cn_congr (fun f hf => (qu_at I (Nat.le_add_left n k) hk (by omega)).symm)
  rw [a]
  refine cn_bij (fun j => j + n) (fun e => e - n) ?_ ?_ ?_ ?_
  · rintro j hj ⟨h1, h2⟩
    exact ⟨by omega, by omega, wd_eq h2 h⟩
  · rintro e he ⟨h1, h2⟩
    have e1 : e = e - n + n := by omega
    rw [e1] at h2
    exact ⟨by omega, by omega, wd_qe (sa_eq_s h2) h⟩
  · rintro j hj _
    exact Nat.add_sub_cancel j n
  · rintro e he ⟨h1, h2⟩
    exact Nat.sub_add_cancel h1
/-- the longest word that stands twice -/
def qu_tw (w : Nat → Nat) (s n : Nat) : Prop := 1 ≤ n ∧ ∃ f e, n ≤ f ∧ f < e ∧ e ≤ s ∧ sa_eq w f e n
def qu_rep (w : Nat → Nat) (s r : Nat) : Prop := (r = 0 ∨ qu_tw w s r) ∧ ∀ n, qu_tw w s n → n ≤ r
theorem qu_rep_u {r r' : Nat} (h : qu_rep w s r) (h' : qu_rep w s r') : r = r' := by
  have a : r ≤ r' := by
    rcases h.1 with z | z
    · omega
    · exact h'.2 r z
  have b : r' ≤ r := by
    rcases h'.1 with z | z
    · omega
    · exact h.2 r' z
  omega
theorem qu_twX (I : sa_Inv w s (fun k => k < N) L sh E nx T) {k : Nat} (hk : k < N) (k0 : k ≠ 0) (h : 2 ≤ qu_oc s L T k) : qu_tw w s (L k) := by
  obtain ⟨f, e, h1, h2, ⟨h3, h4⟩, ⟨h5, h6⟩⟩ := cn_two h
  have b := I.2.2.1 k hk k0
  have c := sa_same I h3 (by omega) h5 (by omega) (h4.trans h6.symm)
  rw [h4] at c
  exact ⟨by have := b.2.1; omega, f, e, h3, h1, by omega, c⟩
theorem qu_twN (I : sa_Inv w s (fun k => k < N) L sh E nx T) {n : Nat} (h : qu_tw w s n) : ∃ k, k < N ∧ k ≠ 0 ∧ 2 ≤ qu_oc s L T k ∧ n ≤ L k := by
  obtain ⟨h0, f, e, h1, h2, h3, h4⟩ := h
  obtain ⟨a1, a2, a3, a4, a5, a6⟩ := I.2.1 e n (by omega) h3
  refine ⟨T e n, a1, sa_nz I (by omega) h3 (by omega), ?_, a2⟩
  exact cn_ge2 (f := fun e_1 => L (T e n) ≤ e_1 ∧ T e_1 (L (T e n)) = T e n) h2 (by omega) ((qu_at I (by omega) h3 (by omega)).mp ⟨h1, h4⟩) ((qu_at I (by omega) h3 h3).mp ⟨by omega, sa_eq_r _ _ _⟩)
theorem qu_twY {n : Nat} (h1 : 1 ≤ n) (hn : n ≤ s) : qu_tw w s n ↔ qu_wo w s n < s - n + 1 := by
  have e : qu_wo w s n = cn_n (fun j => qu_fst w n (n + j)) (s - n + 1) := by
    unfold qu_wo
    rw [show s + 1 = n + (s - n + 1) from by omega]
    exact cn_shift (fun i hi z => by have := z.1; omega) (fun i _ => Iff.rfl)
  constructor
  · rintro ⟨_, f, e', a1, a2, a3, a4⟩
    refine Classical.byContradiction fun z => ?_
    have := cn_same (n := s - n + 1) (f := fun j => qu_fst w n (n + j)) (g := fun _ => True) (fun _ _ _ => trivial) (by rw [cn_all (fun _ _ => trivial)]; omega) (e' - n) (by omega) trivial
    have b : qu_fst w n (n + (e' - n)) := this
    rw [show n + (e' - n) = e' from by omega] at b
    exact b.2 f a1 a2 a4
  · intro h
    refine Classical.byContradiction fun z => ?_
    have : cn_n (fun j => qu_fst w n (n + j)) (s - n + 1) = s - n + 1 := by
      refine cn_all (fun j hj => ⟨by omega, fun f hf hlt y => z ⟨h1, f, n + j, hf, hlt, by omega, y⟩⟩)
    omega
/-- the number of all words -/
theorem qu_all (I : sa_Inv w s (fun k => k < N) L sh E nx T) : sm_m (fun k => if k = 0 then 0 else L k - L (sh k)) N = sm_m (fun n => if n = 0 then 0 else qu_wo w s n) (s + 1) := by
  have h := cn_swap (fun k n => k ≠ 0 ∧ L (sh k) < n ∧ n ≤ L k) N (s + 1)
  have a : sm_m (fun k => if k = 0 then 0 else L k - L (sh k)) N = sm_m (fun k => cn_n (fun n => k ≠ 0 ∧ L (sh k) < n ∧ n ≤ L k) (s + 1)) N := by
    refine sm_m_congr (fun k hk => ?_)
    by_cases k0 : k = 0
    · rw [if_pos k0, cn_none (fun i _ z => z.1 k0)]
    · obtain ⟨b1, b2, b3, b4, b5, b6⟩ := I.2.2.1 k hk k0
      rw [if_neg k0, ← cn_iv (a := L (sh k)) (b := L k) (n := s + 1) (by omega) (by omega)]
      exact cn_congr (fun i _ => ⟨fun z => ⟨k0, z⟩, fun z => z.2⟩)
  have b : sm_m (fun n => if n = 0 then 0 else qu_wo w s n) (s + 1) = sm_m (fun n => cn_n (fun k => k ≠ 0 ∧ L (sh k) < n ∧ n ≤ L k) N) (s + 1) := by
    refine sm_m_congr (fun n hn => ?_)
    by_cases n0 : n = 0
    · rw [if_pos n0, cn_none (fun i _ z => by have := z.2.1; omega)]
    · rw [if_neg n0, qu_words I (by omega)]
  rw [a, b, h]
/-! absent words -/
def ab_R (nx : Nat → Nat → Nat) : Nat → Nat → Prop
  | 0, _ => True
  | m + 1, k => ∀ c, c < 4 → nx k c ≠ 0 ∧ ab_R nx m (nx k c)
theorem ab_m1 {m : Nat} : ∀ {k : Nat}, ab_R nx (m + 1) k → ab_R nx m k := by
  induction m with
  | zero => intro k _; trivial
  | succ m ih =>
    intro k h c hc
    exact ⟨(h c hc).1, ih (h c hc).2⟩
theorem ab_mono {m n k : Nat} (hm : m ≤ n) (h : ab_R nx n k) : ab_R nx m k := by
  induction n with
  | zero => rw [show m = 0 from by omega]; trivial
  | succ n ih =>
    by_cases z : m = n + 1
    · rw [z]; exact h
    · exact ih (by omega) (ab_m1 h)
def ab_G (nx : Nat → Nat → Nat) (k g : Nat) : Prop := 1 ≤ g ∧ ab_R nx (g - 1) k ∧ ¬ ab_R nx g k
theorem ab_u {k g g' : Nat} (h : ab_G nx k g) (h' : ab_G nx k g') : g = g' := by
  have a : ¬ g < g' := fun z => h.2.2 (ab_mono (by omega) h'.2.1)
  have b : ¬ g' < g := fun z => h'.2.2 (ab_mono (by omega) h.2.1)
  omega
/-- a word's number, the first letter highest -/
def ab_c (w : Nat → Nat) (f : Nat) : Nat → Nat
  | 0 => 0
  | m + 1 => w (f - 1 - m) * 4 ^ m + ab_c w f m
theorem ab_c_lt (hw : ∀ j, w j < 4) (f m : Nat) : ab_c w f m < 4 ^ m := by
  induction m with
  | zero => exact Nat.one_pos
  | succ m ih =>
    show w (f - 1 - m) * 4 ^ m + ab_c w f m < 4 ^ (m + 1)
    have := hw (f - 1 - m)
    have h : w (f - 1 - m) * 4 ^ m ≤ 3 * 4 ^ m := Nat.mul_le_mul_right _ (by omega)
    rw [Nat.pow_succ]
    omega
theorem ab_div {a b x y p : Nat} (hx : x < p) (hy : y < p) (h : a * p + x = b * p + y) : a = b ∧ x = y := by
  have e1 : (a * p + x) / p = a := by
    rw [Nat.mul_comm, Nat.mul_add_div (by omega), Nat.div_eq_of_lt hx]; rfl
  have e2 : (b * p + y) / p = b := by
    rw [Nat.mul_comm, Nat.mul_add_div (by omega), Nat.div_eq_of_lt hy]; rfl
  have e : a = b := by rw [← e1, ← e2, h]
  subst e
  exact ⟨rfl, by omega⟩
theorem ab_c_eq {e f m : Nat} (h : sa_eq w e f m) : ab_c w e m = ab_c w f m := by
  induction m with
  | zero => rfl
  | succ m ih =>
    show w (e - 1 - m) * 4 ^ m + ab_c w e m = w (f - 1 - m) * 4 ^ m + ab_c w f m
    rw [ih (sa_eq_m (by omega) h), h m (by omega)]
theorem ab_c_inj (hw : ∀ j, w j < 4) {e f m : Nat} (h : ab_c w e m = ab_c w f m) : sa_eq w e f m := by
  induction m with
  | zero => intro i hi; omega
  | succ m ih =>
    have a := ab_div (ab_c_lt hw e m) (ab_c_lt hw f m) (show w (e - 1 - m) * 4 ^ m + ab_c w e m = w (f - 1 - m) * 4 ^ m + ab_c w f m from h)
    have b := ih a.2
    intro i hi
    by_cases z : i = m
    · rw [z]; exact a.1
    · exact b i (by omega)
theorem ab_all (I : sa_Inv w s (fun k => k < N) L sh E nx T) : ∀ m e n, n ≤ e → e ≤ s → (ab_R nx m (T e n) ↔ ∀ j, j < 4 ^ m → ∃ f, n + m ≤ f ∧ f ≤ s ∧ sa_eq w (f - m) e n ∧ ab_c w f m = j) := by
  intro m
  induction m with
  | zero =>
    intro e n hn he
    refine ⟨fun _ j hj => ⟨e, by omega, he, sa_eq_r _ _ _, ?_⟩, fun _ => trivial⟩
    show 0 = j
    have : j < 1 := hj
    omega
  | succ m ih =>
    intro e n hn he
    have p4 : 4 ^ (m + 1) = 4 * 4 ^ m := by rw [Nat.pow_succ]; omega
    have p0 : 0 < 4 ^ m := Nat.pow_pos (by omega)
    constructor
    · intro h j hj
      have hc : j / 4 ^ m < 4 := (Nat.div_lt_iff_lt_mul p0).mpr (by omega)
      have h1 := h _ hc
      obtain ⟨f, u1, u2, u3, u4, u5⟩ := qu_s1 I hn he hc h1.1
      have h2 := h1.2
      rw [u5] at h2
      obtain ⟨g, v1, v2, v3, v4⟩ := (ih (f + 1) (n + 1) (by omega) (by omega)).mp h2 (j % 4 ^ m) (Nat.mod_lt _ p0)
      have e1 : g - m = g - (m + 1) + 1 := by omega
      rw [e1] at v3
      have v5 := sa_eq_1 v3
      refine ⟨g, by omega, v2, sa_eq_t v5.2 u4, ?_⟩
      show w (g - 1 - m) * 4 ^ m + ab_c w g m = j
      rw [show g - 1 - m = g - (m + 1) from by omega, v5.1, u3, v4, Nat.mul_comm]
      exact Nat.div_add_mod _ _
    · intro h c hc
      have key : ∀ j, j < 4 ^ m → ∃ f, n + (m + 1) ≤ f ∧ f ≤ s ∧ sa_eq w (f - (m + 1)) e n ∧ w (f - (m + 1)) = c ∧ ab_c w f m = j := by
        intro j hj
        have hb : c * 4 ^ m ≤ 3 * 4 ^ m := Nat.mul_le_mul_right _ (by omega)
        obtain ⟨f, v1, v2, v3, v4⟩ := h (c * 4 ^ m + j) (by omega)
        have a := ab_div (ab_c_lt I.1.2.2.2 f m) hj (show w (f - 1 - m) * 4 ^ m + ab_c w f m = c * 4 ^ m + j from v4)
        exact ⟨f, v1, v2, v3, by rw [← a.1, show f - 1 - m = f - (m + 1) from by omega], a.2⟩
      obtain ⟨f, v1, v2, v3, v4, v5⟩ := key 0 p0
      have a := qu_s0 I hn he (f := f - (m + 1)) (by omega) (by omega) v3
      rw [v4] at a
      refine ⟨a.2, ?_⟩
      rw [a.1]
      refine (ih (f - (m + 1) + 1) (n + 1) (by omega) (by omega)).mpr (fun j hj => ?_)
      obtain ⟨g, x1, x2, x3, x4, x5⟩ := key j hj
      refine ⟨g, by omega, x2, ?_, x5⟩
      rw [show g - m = g - (m + 1) + 1 from by omega]
      exact sa_eq_2 (x4.trans v4.symm) (sa_eq_t x3 (sa_eq_s v3))
theorem ab_wo (I : sa_Inv w s (fun k => k < N) L sh E nx T) (m : Nat) : ab_R nx m 0 ↔ qu_wo w s m = 4 ^ m := by
  have hw := I.1.2.2.2
  have a := ab_all I m 0 0 (Nat.le_refl _) (Nat.zero_le _)
  rw [sa_z I (Nat.zero_le _)] at a
  have uniq : ∀ i j, qu_fst w m i → qu_fst w m j → ab_c w i m = ab_c w j m → i = j := by
    intro i j hi hj e
    have q := ab_c_inj hw e
    have b1 : ¬ i < j := fun z => hj.2 i hi.1 z q
    have b2 : ¬ j < i := fun z => hi.2 j hj.1 z (sa_eq_s q)
    omega
  have le : qu_wo w s m ≤ 4 ^ m := by
    have := cn_inj (f := qu_fst w m) (fun e => ab_c w e m) (n := s + 1) (g := fun _ => True) (m := 4 ^ m) (fun i _ _ => ⟨ab_c_lt hw i m, trivial⟩) (fun i j _ _ fi fj h => uniq i j fi fj h)
    rw [cn_all (fun _ _ => trivial)] at this
    exact this
  rw [a]
  constructor
  · intro h
    refine Nat.le_antisymm le ?_
    have ch : ∀ j, ∃ f, j < 4 ^ m → f < s + 1 ∧ qu_fst w m f ∧ ab_c w f m = j := by
      intro j
      by_cases hj : j < 4 ^ m
      · obtain ⟨f, v1, v2, v3, v4⟩ := h j hj
        obtain ⟨g, g1, g2⟩ := pk_least (fun g => m ≤ g ∧ ab_c w g m = j) ⟨f, by omega, v4⟩
        refine ⟨g, fun _ => ⟨?_, ⟨g1.1, fun x hx hlt z => g2 x hlt ⟨hx, (ab_c_eq z).trans g1.2⟩⟩, g1.2⟩⟩
        refine Classical.byContradiction fun z => ?_
        exact g2 f (by omega) ⟨by omega, v4⟩
      · exact ⟨0, fun z => absurd z hj⟩
    have := cn_inj (f := fun _ => True) (fun j => Classical.choose (ch j)) (n := 4 ^ m) (g := qu_fst w m) (m := s + 1)
      (fun j hj _ => ⟨(Classical.choose_spec (ch j) hj).1, (Classical.choose_spec (ch j) hj).2.1⟩)
      (fun i j hi hj _ _ h => by
        have x := (Classical.choose_spec (ch i) hi).2.2
        have y := (Classical.choose_spec (ch j) hj).2.2
        have h' : Classical.choose (ch i) = Classical.choose (ch j) := h
        rw [h'] at x
        exact x.symm.trans y)
    rw [cn_all (fun _ _ => trivial)] at this
    exact this
  · intro h j hj
    obtain ⟨f, h1, h2, h3⟩ := cn_onto (f := qu_fst w m) (n := s + 1) (fun e => ab_c w e m) (fun i _ _ => ab_c_lt hw i m) (fun i j _ _ fi fj h => uniq i j fi fj h) (Nat.le_of_eq h.symm) j hj
    exact ⟨f, by have := h2.1; omega, by omega, fun i hi => by omega, h3⟩
end
end
section
/-! arrays and the automaton; the end of a growth; sums of places -/
def en_x (x : Nat) : Int32 := if x = 0 then -1 else nI x
theorem en_0 {x : Nat} (h : x = 0) : en_x x = -1 := if_pos h
theorem en_n {x : Nat} (h : x ≠ 0) : en_x x = nI x := if_neg h
def ar_B (P : Nat → Prop) (L sh E : Nat → Nat) (nx T : Nat → Nat → Nat) (aL aSh aE aN aC : Nat → Int32) : Prop :=
  (∀ k, P k → aL k = nI (L k)) ∧ aSh 0 = -1 ∧ (∀ k, P k → k ≠ 0 → aSh k = nI (sh k)) ∧ (∀ k, P k → k ≠ 0 → aE k = nI (E k - 1)) ∧ (∀ k d, P k → d < 4 → aN (k * 4 + d) = en_x (nx k d)) ∧ (∀ k, P k → k ≠ 0 → (aC k = 0 ↔ T (L k) (L k) = k))
def sx_A (s : Nat) (w : Nat → Nat) (f_states f_whole f_counted : Int32) (aL aSh aE aN aC aP : Nat → Int32) : Prop :=
  ∃ (N : Nat) (L sh E : Nat → Nat) (nx T : Nat → Nat → Nat), f_states = nI N ∧ f_whole = nI (T s s) ∧ N ≤ 2 * s + 1 ∧ sa_Inv w s (fun k => k < N) L sh E nx T ∧ ar_B (fun k => k < N) L sh E nx T aL aSh aE aN aC ∧ (f_counted = 0 ∨ ∀ k, k < N → k ≠ 0 → aP k = nI (qu_oc s L T k))
/-- the rows of next while a new state m stands behind all long ends of the word -/
def gr_rows (s : Nat) (P : Nat → Prop) (L : Nat → Nat) (nx T : Nat → Nat → Nat) (c l m : Nat) (aN : Nat → Int32) : Prop :=
  (∀ k, P k → l ≤ L k → T s (L k) = k → aN (k * 4 + c) = nI m) ∧ (∀ k d, P k → d < 4 → ¬ (d = c ∧ l ≤ L k ∧ T s (L k) = k) → aN (k * 4 + d) = en_x (nx k d)) ∧ ∀ d, d < 4 → aN (m * 4 + d) = -1
section
variable {w : Nat → Nat} {s : Nat} {P : Nat → Prop} {L sh E : Nat → Nat} {nx T : Nat → Nat → Nat} {aL aSh aE aN aC aP : Nat → Int32}
theorem gr_fin (I : sa_Inv w s P L sh E nx T) {w' : Nat → Nat} {c e0 l q m N : Nat}
    (hw : ∀ j, j < s → w' j = w j) (hws : w' s = c) (hw4 : ∀ j, w' j < 4) (hl : l ≤ e0) (he0 : e0 ≤ s) (hq : T e0 l = q) (hLq : L q = l)
    (h0 : sa_eq w' e0 (s + 1) l) (hF : ∀ e, l + 1 ≤ e → e ≤ s → ¬ sa_eq w' e (s + 1) (l + 1)) (hm : ¬ P m)
    (hP : ∀ k, k < N ↔ P k ∨ k = m) (hN : N ≤ 2 * (s + 1) + 1)
    (bL : ∀ k, P k → aL k = nI (L k)) (bLm : aL m = nI (s + 1)) (b0 : aSh 0 = -1) (bS : ∀ k, P k → k ≠ 0 → aSh k = nI (sh k)) (bSm : aSh m = nI q)
    (bE : ∀ k, P k → k ≠ 0 → aE k = nI (E k - 1)) (bEm : aE m = nI s) (bN : gr_rows s P L nx T c l m aN)
    (bC : ∀ k, P k → k ≠ 0 → (aC k = 0 ↔ T (L k) (L k) = k)) (bCm : aC m = 0) : sx_A (s + 1) w' (nI N) (nI m) 0 aL aSh aE aN aC aP := by
  have nm : ∀ k, P k → k ≠ m := fun k hk h => hm (h ▸ hk)
  have m0 : m ≠ 0 := fun h => hm (h ▸ I.1.1)
  have lm : ∀ {k : Nat} {α : Type} {x y : α}, P k → (if k = m then x else y) = y := fun hk => if_neg (nm _ hk)
  have hN1 : ∀ k, P k → l ≤ L k → L k ≤ s → T s (L k) = k → (fun k d => if k = m then 0 else if d = c ∧ l ≤ L k ∧ T s (L k) = k then m else nx k d) k c = m := by
    intro k hk h1 h2 h3
    show (if k = m then 0 else if c = c ∧ l ≤ L k ∧ T s (L k) = k then m else nx k c) = m
    rw [if_neg (nm k hk), if_pos ⟨rfl, h1, h3⟩]
  have hN2 : ∀ k d, P k → d < 4 → ¬ (d = c ∧ l ≤ L k ∧ L k ≤ s ∧ T s (L k) = k) → (fun k d => if k = m then 0 else if d = c ∧ l ≤ L k ∧ T s (L k) = k then m else nx k d) k d = nx k d := by
    intro k d hk hd h
    show (if k = m then 0 else if d = c ∧ l ≤ L k ∧ T s (L k) = k then m else nx k d) = nx k d
    have b := sa_LE I hk
    rw [if_neg (nm k hk), if_neg (fun z => h ⟨z.1, z.2.1, by omega, z.2.2⟩)]
  have J := sa_append I (m := m) (P2 := fun k => k < N) (L2 := fun k => if k = m then s + 1 else L k) (sh2 := fun k => if k = m then q else sh k) (E2 := fun k => if k = m then s + 1 else E k)
    (nx2 := fun k d => if k = m then 0 else if d = c ∧ l ≤ L k ∧ T s (L k) = k then m else nx k d)
    (T2 := fun e n => if e ≤ s then T e n else if n ≤ l then T e0 n else m) hw hws hw4 hl he0 hq hLq h0 hF hm hP (if_pos rfl) (fun k hk => lm hk) (if_pos rfl) (fun k hk => lm hk) (if_pos rfl) (fun k hk => lm hk)
    (fun d _ => if_pos rfl) hN1 hN2 (fun e n h => if_pos h)
    (fun n h => by show (if s + 1 ≤ s then T (s + 1) n else if n ≤ l then T e0 n else m) = _; rw [if_neg (by omega), if_pos h])
    (fun n h => by show (if s + 1 ≤ s then T (s + 1) n else if n ≤ l then T e0 n else m) = _; rw [if_neg (by omega), if_neg (by omega)])
  refine ⟨N, _, _, _, _, _, rfl, ?_, hN, J, ⟨?_, b0, ?_, ?_, ?_, ?_⟩, Or.inl rfl⟩
  · show nI m = nI (if s + 1 ≤ s then T (s + 1) (s + 1) else if s + 1 ≤ l then T e0 (s + 1) else m)
    rw [if_neg (by omega), if_neg (by omega)]
  · intro k hk
    show aL k = nI (if k = m then s + 1 else L k)
    rcases (hP k).mp hk with z | z
    · rw [lm z, bL k z]
    · rw [if_pos z, z, bLm]
  · intro k hk k0
    show aSh k = nI (if k = m then q else sh k)
    rcases (hP k).mp hk with z | z
    · rw [lm z, bS k z k0]
    · rw [if_pos z, z, bSm]
  · intro k hk k0
    show aE k = nI ((if k = m then s + 1 else E k) - 1)
    rcases (hP k).mp hk with z | z
    · rw [lm z, bE k z k0]
    · rw [if_pos z, z, bEm]; rfl
  · intro k d hk hd
    show aN (k * 4 + d) = en_x (if k = m then 0 else if d = c ∧ l ≤ L k ∧ T s (L k) = k then m else nx k d)
    rcases (hP k).mp hk with z | z
    · rw [if_neg (nm k z)]
      by_cases y : d = c ∧ l ≤ L k ∧ T s (L k) = k
      · rw [if_pos y, en_n m0, y.1]
        exact bN.1 k z y.2.1 y.2.2
      · rw [if_neg y]
        exact bN.2.1 k d z hd y
    · rw [if_pos z, z, en_0 rfl]
      exact bN.2.2 d hd
  · intro k hk k0
    show aC k = 0 ↔ (if (if k = m then s + 1 else L k) ≤ s then T (if k = m then s + 1 else L k) (if k = m then s + 1 else L k) else if (if k = m then s + 1 else L k) ≤ l then T e0 (if k = m then s + 1 else L k) else m) = k
    rcases (hP k).mp hk with z | z
    · have b := sa_LE I z
      rw [lm z, if_pos (show L k ≤ s by omega)]
      exact bC k z k0
    · rw [if_pos z, if_neg (by omega), if_neg (by omega), z]
      exact ⟨fun _ => rfl, fun _ => bCm⟩
/-- what a loop along the ends has found: the longest end of the new word that stood before -/
def gr_end (s N : Nat) (L : Nat → Nat) (nx T : Nat → Nat → Nat) (c l : Nat) (x : Int32) : Prop :=
  (x = -1 ∧ l = 0) ∨ ∃ p, x = nI p ∧ p < N ∧ T s (L p) = p ∧ l = L p + 1 ∧ nx p c ≠ 0
theorem gr_F {N : Nat} (I : sa_Inv w s (fun k => k < N) L sh E nx T) {w' : Nat → Nat} {c l : Nat} (hw : ∀ j, j < s → w' j = w j) (hws : w' s = c)
    (hn : ∀ k, k < N → T s (L k) = k → l ≤ L k → nx k c = 0) : ∀ e, l + 1 ≤ e → e ≤ s → ¬ sa_eq w' e (s + 1) (l + 1) := by
  intro e h1 h2 h3
  obtain ⟨e, rfl⟩ : ∃ f, e = f + 1 := ⟨e - 1, by omega⟩
  have h4 := sa_eq_1 h3
  have hw2 : ∀ j, j < s → w j = w' j := fun j hj => (hw j hj).symm
  have h5 := sa_eq_w hw2 (show e ≤ s by omega) (Nat.le_refl s) (show l ≤ e by omega) (by omega) h4.2
  have h6 := qu_s0 I (e := s) (n := l) (f := e) (by omega) (Nat.le_refl _) (by omega) (by omega) h5
  have h7 : w e = c := by rw [hw2 e (by omega), h4.1, hws]
  have a := I.2.1 s l (by omega) (Nat.le_refl _)
  rw [h7] at h6
  exact h6.2 (hn _ a.1 (sa_top I (by omega) (Nat.le_refl _)) a.2.1)
/-- the place before at which the longest end stands -/
theorem gr_p {N : Nat} (I : sa_Inv w s (fun k => k < N) L sh E nx T) {p c : Nat} (hp : p < N) (hT : T s (L p) = p) (hc : c < 4) (hx : nx p c ≠ 0) : ∃ e1, e1 < s ∧ w e1 = c ∧ L p ≤ e1 ∧ T e1 (L p) = p ∧ nx p c = T (e1 + 1) (L p + 1) ∧ sa_eq w e1 s (L p) := by
  obtain ⟨e, u1, u2, u3, u4⟩ := I.2.2.2.2.2 p c hp hc hx
  have u5 := I.2.2.2.2.1 e (L p) u3 u1
  rw [u4, u2] at u5
  have b := sa_LE I hp
  have u6 := sa_same I u3 (Nat.le_of_lt u1) (show L p ≤ s by omega) (Nat.le_refl s) (u4.trans hT.symm)
  rw [u4] at u6
  exact ⟨e, u1, u2, u3, u4, u5, u6⟩
theorem gr_w {w' : Nat → Nat} {c e1 n : Nat} (hw : ∀ j, j < s → w' j = w j) (hws : w' s = c) (h1 : e1 < s) (h2 : w e1 = c) (hn : n ≤ e1) (h : sa_eq w e1 s n) : sa_eq w' (e1 + 1) (s + 1) (n + 1) :=
  sa_eq_2 (by rw [hw e1 h1, h2, hws]) (sa_eq_w hw (Nat.le_of_lt h1) (Nat.le_refl _) hn (by omega) h)
/-- the states along the ends that lead to q stand together -/
theorem gr_run {N : Nat} (I : sa_Inv w s (fun k => k < N) L sh E nx T) {p q c a k : Nat} (hp : p < N) (hT : T s (L p) = p) (hc : c < 4) (hq : nx p c = q) (q0 : q ≠ 0)
    (ha : a < N) (hTa : T s (L a) = a) (hk : k < N) (hTk : T s (L k) = k) (h1 : L k ≤ L a) (h2 : L a ≤ L p) (h : nx k c = q) : nx a c = q := by
  obtain ⟨e, u1, u2, u3, u4, u5, u6⟩ := gr_p I hp hT hc (by rw [hq]; exact q0)
  have ls := sa_LE I hp
  have ta : T e (L a) = a := (I.2.2.2.1 e s (L a) (by omega) (by omega) (by omega) (Nat.le_refl _) (sa_eq_m h2 u6)).trans hTa
  have tk : T e (L k) = k := (I.2.2.2.1 e s (L k) (by omega) (by omega) (by omega) (Nat.le_refl _) (sa_eq_m (by omega) u6)).trans hTk
  have na := I.2.2.2.2.1 e (L a) (by omega) u1
  have nk := I.2.2.2.2.1 e (L k) (by omega) u1
  rw [ta, u2] at na
  rw [tk, u2, h] at nk
  rw [hq] at u5
  have j := I.2.1 (e + 1) (L k + 1) (by omega) (by omega)
  rw [← nk] at j
  have j2 := I.2.1 (e + 1) (L p + 1) (by omega) (by omega)
  rw [← u5] at j2
  have x := sa_in I (e := e + 1) (n := L k + 1) (m := L a + 1) (by omega) (by omega) (fun z => by rw [← nk] at z ⊢; have := j.2.2.2.2.1 z; omega) (by rw [← nk]; have := j2.2.1; omega)
  rw [na, x, ← nk]
end
/-! sums of places -/
section
variable {w : Nat → Nat} {s N : Nat} {L sh E : Nat → Nat} {nx T : Nat → Nat → Nat}
noncomputable def pl_v (s : Nat) (L : Nat → Nat) (T : Nat → Nat → Nat) (Q : Nat → Prop) (k : Nat) : Nat := cn_n (fun e => L k ≤ e ∧ T e (L k) = k ∧ (e = L k ∨ (L k < e ∧ Q (T e (L k + 1))))) (s + 1)
theorem pl_child (I : sa_Inv w s (fun k => k < N) L sh E nx T) {e k : Nat} (he : e ≤ s) (h1 : L k < e) (h2 : T e (L k) = k) : T e (L k + 1) < N ∧ T e (L k + 1) ≠ 0 ∧ sh (T e (L k + 1)) = k ∧ L k < L (T e (L k + 1)) := by
  obtain ⟨a1, a2, a3, a4, a5, a6⟩ := I.2.1 e (L k + 1) (by omega) he
  have z := sa_nz I (show L k + 1 ≤ e by omega) he (by omega)
  have b := a5 z
  have c := sa_link I (show L k + 1 ≤ e by omega) he z
  refine ⟨a1, z, ?_, by omega⟩
  by_cases y : L (sh (T e (L k + 1))) = L k
  · rw [y, h2] at c
    exact c.symm
  · have d := sa_in I (e := e) (n := L k + 1) (m := L k) (by omega) he (fun _ => by omega) (by omega)
    rw [h2] at d
    rw [← d] at a2
    omega
theorem pl_congr (I : sa_Inv w s (fun k => k < N) L sh E nx T) {Q Q' : Nat → Prop} {k : Nat} (h : ∀ x, x < N → x ≠ 0 → L k < L x → (Q x ↔ Q' x)) : pl_v s L T Q k = pl_v s L T Q' k := by
  refine cn_congr (fun e he => ?_)
  constructor
  · rintro ⟨h1, h2, h3⟩
    refine ⟨h1, h2, h3.imp id (fun z => ?_)⟩
    have a := pl_child I (show e ≤ s by omega) z.1 h2
    exact ⟨z.1, (h _ a.1 a.2.1 a.2.2.2).mp z.2⟩
  · rintro ⟨h1, h2, h3⟩
    refine ⟨h1, h2, h3.imp id (fun z => ?_)⟩
    have a := pl_child I (show e ≤ s by omega) z.1 h2
    exact ⟨z.1, (h _ a.1 a.2.1 a.2.2.2).mpr z.2⟩
theorem pl_none (I : sa_Inv w s (fun k => k < N) L sh E nx T) {Q : Nat → Prop} {k : Nat} (hk : k < N) (h : ∀ x, x < N → x ≠ 0 → ¬ Q x) : pl_v s L T Q k = cn_b (T (L k) (L k) = k) := by
  have b := sa_LE I hk
  by_cases z : T (L k) (L k) = k
  · rw [cn_b1 z, ← cn_one (n := s + 1) (a := L k) (by omega)]
    refine cn_congr (fun e he => ⟨fun y => ?_, fun y => ?_⟩)
    · rcases y.2.2 with x | x
      · exact x
      · have a := pl_child I (show e ≤ s by omega) x.1 y.2.1
        exact absurd x.2 (h _ a.1 a.2.1)
    · rw [y]
      exact ⟨Nat.le_refl _, z, Or.inl rfl⟩
  · rw [cn_b0 z]
    refine cn_none (fun e he y => ?_)
    rcases y.2.2 with x | x
    · have y2 := y.2.1
      rw [x] at y2
      exact z y2
    · have a := pl_child I (show e ≤ s by omega) x.1 y.2.1
      exact h _ a.1 a.2.1 x.2
theorem pl_full (I : sa_Inv w s (fun k => k < N) L sh E nx T) {Q : Nat → Prop} {k : Nat} (h : ∀ x, x < N → x ≠ 0 → L k < L x → Q x) : pl_v s L T Q k = qu_oc s L T k := by
  refine cn_congr (fun e he => ⟨fun y => ⟨y.1, y.2.1⟩, fun y => ⟨y.1, y.2, ?_⟩⟩)
  by_cases z : e = L k
  · exact Or.inl z
  · have a := pl_child I (show e ≤ s by omega) (show L k < e by have := y.1; omega) y.2
    exact Or.inr ⟨by have := y.1; omega, h _ a.1 a.2.1 a.2.2.2⟩
theorem pl_add (I : sa_Inv w s (fun k => k < N) L sh E nx T) {Q Q' : Nat → Prop} {i : Nat} (hi : i < N) (i0 : i ≠ 0) (hQ : ¬ Q i) (h : ∀ x, x < N → (Q' x ↔ Q x ∨ x = i)) : pl_v s L T Q' (sh i) = pl_v s L T Q (sh i) + qu_oc s L T i := by
  obtain ⟨b1, b2, b3, b4, b5, b6⟩ := I.2.2.1 i hi i0
  have iff : ∀ e, e ≤ s → ((L i ≤ e ∧ T e (L i) = i) ↔ (L (sh i) < e ∧ T e (L (sh i)) = sh i ∧ T e (L (sh i) + 1) = i)) := by
    intro e he
    constructor
    · rintro ⟨h1, h2⟩
      have c := sa_link I h1 he (by rw [h2]; exact i0)
      have d := sa_in I (e := e) (n := L i) (m := L (sh i) + 1) h1 he (fun _ => by rw [h2]; omega) (by rw [h2]; omega)
      rw [h2] at c d
      exact ⟨by omega, c, d⟩
    · rintro ⟨h1, h2, h3⟩
      have c := I.2.1 e (L (sh i) + 1) (by omega) he
      have d := sa_top I (show L (sh i) + 1 ≤ e by omega) he
      rw [h3] at c d
      exact ⟨c.2.2.1, d⟩
  refine cn_or (fun e he => ?_) (fun e he y z => ?_)
  · constructor
    · rintro ⟨h1, h2, h3⟩
      rcases h3 with x | x
      · exact Or.inl ⟨h1, h2, Or.inl x⟩
      · have a := pl_child I (show e ≤ s by omega) x.1 h2
        rcases (h _ a.1).mp x.2 with u | u
        · exact Or.inl ⟨h1, h2, Or.inr ⟨x.1, u⟩⟩
        · exact Or.inr ((iff e (by omega)).mpr ⟨x.1, h2, u⟩)
    · rintro (y | y)
      · refine ⟨y.1, y.2.1, y.2.2.imp id (fun x => ⟨x.1, ?_⟩)⟩
        have a := pl_child I (show e ≤ s by omega) x.1 y.2.1
        exact (h _ a.1).mpr (Or.inl x.2)
      · have x := (iff e (by omega)).mp y
        refine ⟨by omega, x.2.1, Or.inr ⟨x.1, ?_⟩⟩
        rw [x.2.2]
        exact (h i hi).mpr (Or.inr rfl)
  · have x := (iff e (by omega)).mp z
    rcases y.2.2 with u | u
    · omega
    · rw [x.2.2] at u
      exact hQ u.2
theorem pl_keep (I : sa_Inv w s (fun k => k < N) L sh E nx T) {Q Q' : Nat → Prop} {i k : Nat} (hk : k ≠ sh i) (h : ∀ x, x < N → (Q' x ↔ Q x ∨ x = i)) : pl_v s L T Q' k = pl_v s L T Q k := by
  refine cn_congr (fun e he => ⟨fun y => ⟨y.1, y.2.1, y.2.2.imp id (fun x => ⟨x.1, ?_⟩)⟩, fun y => ⟨y.1, y.2.1, y.2.2.imp id (fun x => ⟨x.1, ?_⟩)⟩⟩)
  · have a := pl_child I (show e ≤ s by omega) x.1 y.2.1
    rcases (h _ a.1).mp x.2 with u | u
    · exact u
    · exact absurd (by rw [← a.2.2.1, u]) hk
  · have a := pl_child I (show e ≤ s by omega) x.1 y.2.1
    exact (h _ a.1).mpr (Or.inl x.2)
end
end
section
/-! further pure rows: one more place of a reckoning, words counted by the reference, the greatest -/
theorem dp_Yext {w tg : Nat → Nat} {s copy add j b : Nat} {cY : Nat → Nat} (h : dp_Y w tg s copy add cY j) (ha : add ≤ 100) (h1 : b ≤ cY j + add) (h2 : ∀ i, i < j + 1 → wd_F w tg s i (j + 1 - i) → b ≤ cY i + copy)
    (h3 : ∃ i c, i < j + 1 ∧ dp_R w tg s copy add i (j + 1) c ∧ b = cY i + c) : dp_Y w tg s copy add (fun x => if x = j + 1 then b else cY x) (j + 1) := by
  obtain ⟨y0, y1, y2, y3⟩ := h
  have old : ∀ x, x ≤ j → (fun x => if x = j + 1 then b else cY x) x = cY x := fun x hx => if_neg (by omega)
  have new : (fun x => if x = j + 1 then b else cY x) (j + 1) = b := if_pos rfl
  refine ⟨(old 0 (by omega)).trans y0, ?_, ?_, ?_⟩
  · intro i k c hik hk hR
    rw [old i (by omega)]
    by_cases z : k = j + 1
    · subst z
      rw [new]
      rcases hR with ⟨r1, r2⟩ | ⟨r1, r2⟩
      · rw [r2, show i = j from by omega]; exact h1
      · rw [r2]; exact h2 i hik r1
    · rw [old k (by omega)]
      exact y1 i k c hik (by omega) hR
  · intro k k0 hk
    by_cases z : k = j + 1
    · subst z
      obtain ⟨i, c, u1, u2, u3⟩ := h3
      exact ⟨i, c, u1, u2, by rw [new, old i (by omega)]; exact u3⟩
    · obtain ⟨i, c, u1, u2, u3⟩ := y2 k k0 (by omega)
      exact ⟨i, c, u1, u2, by rw [old k (by omega), old i (by omega)]; exact u3⟩
  · intro k hk
    by_cases z : k = j + 1
    · subst z
      rw [new]
      have := y3 j (Nat.le_refl _)
      omega
    · rw [old k (by omega)]
      exact y3 k (by omega)
theorem dp_Xext {w tg : Nat → Nat} {s t copy add i b : Nat} {cX : Nat → Nat} (h : dp_X w tg s t copy add cX (i + 1)) (hi : i < t) (ha : add ≤ 100) (h1 : b ≤ cX (i + 1) + add) (h2 : ∀ k, 1 ≤ k → k ≤ wd_lf w tg s t i → b ≤ cX (i + k) + copy)
    (h3 : b = cX (i + 1) + add ∨ ∃ k, 1 ≤ k ∧ k ≤ wd_lf w tg s t i ∧ b = cX (i + k) + copy) : dp_X w tg s t copy add (fun x => if x = i then b else cX x) i := by
  obtain ⟨x0, x1, x2, x3⟩ := h
  have old : ∀ x, x ≠ i → (fun x => if x = i then b else cX x) x = cX x := fun x hx => if_neg hx
  have new : (fun x => if x = i then b else cX x) i = b := if_pos rfl
  refine ⟨(old t (by omega)).trans x0, ?_, ?_, ?_⟩
  · intro k j c hik hkj hj hR
    rw [old j (by omega)]
    by_cases z : k = i
    · subst z
      rw [new]
      rcases hR with ⟨r1, r2⟩ | ⟨r1, r2⟩
      · rw [r2, r1]; exact h1
      · have m := wd_lf_max (t := t) (by omega) r1
        have := h2 (j - k) (by omega) m
        rw [show k + (j - k) = j from by omega] at this
        rw [r2]; exact this
    · rw [old k z]
      exact x1 k j c (by omega) hkj hj hR
  · intro k hk hkt
    by_cases z : k = i
    · subst z
      rcases h3 with u | ⟨m, u1, u2, u3⟩
      · exact ⟨k + 1, add, by omega, by omega, Or.inl ⟨rfl, rfl⟩, by rw [new, old (k + 1) (by omega)]; exact u⟩
      · have l := wd_lf_le w tg s t k
        refine ⟨k + m, copy, by omega, by omega, Or.inr ⟨?_, rfl⟩, by rw [new, old (k + m) (by omega)]; exact u3⟩
        rw [show k + m - k = m from by omega]
        exact wd_Fm u2 (wd_lf_F w tg s t k)
    · obtain ⟨j, c, u1, u2, u3, u4⟩ := x2 k (by omega) hkt
      exact ⟨j, c, u1, u2, u3, by rw [old k z, old j (by omega)]; exact u4⟩
  · intro k hk hkt
    by_cases z : k = i
    · subst z
      rw [new]
      have := x3 (k + 1) (by omega) (by omega)
      omega
    · rw [old k z]
      exact x3 k (by omega) hkt
theorem dp_Xlast (w tg : Nat → Nat) (s t copy add : Nat) : dp_X w tg s t copy add (fun _ => 0) t :=
  ⟨rfl, fun i j c h1 h2 h3 => by omega, fun i h1 h2 => by omega, fun j _ _ => Nat.zero_le _⟩
theorem dp_Yfirst (w tg : Nat → Nat) (s copy add : Nat) : dp_Y w tg s copy add (fun _ => 0) 0 :=
  ⟨rfl, fun i j c h1 h2 => by omega, fun j h1 h2 => by omega, fun j _ => Nat.zero_le _⟩
/-- the same letters at two places of the source -/
theorem wd_ss {w : Nat → Nat} {l k n : Nat} : wd_st w w l k n ↔ sa_eq w (n + l) (n + k) n := by
  constructor
  · intro h j hj
    have a : n + l - 1 - j = l + (n - 1 - j) := by omega
    have b : n + k - 1 - j = k + (n - 1 - j) := by omega
    rw [a, b]
    exact h _ (by omega)
  · intro h x hx
    have := h (n - 1 - x) (by omega)
    have a : n + l - 1 - (n - 1 - x) = l + x := by omega
    have b : n + k - 1 - (n - 1 - x) = k + x := by omega
    rw [a, b] at this
    exact this
def wo_g (w : Nat → Nat) (n j : Nat) : Prop := ¬ ∃ l, l < j ∧ wd_st w w l j n
theorem wo_eq {w : Nat → Nat} {s n : Nat} (hn : n ≤ s) : cn_n (wo_g w n) (s - n + 1) = qu_wo w s n := by
  have e : qu_wo w s n = cn_n (fun j => qu_fst w n (n + j)) (s - n + 1) := by
    unfold qu_wo
    rw [show s + 1 = n + (s - n + 1) from by omega]
    exact cn_shift (fun i hi z => by have := z.1; omega) (fun i _ => Iff.rfl)
  rw [e]
  refine cn_congr (fun j hj => ⟨fun h => ⟨by omega, fun f hf hlt z => h ⟨f - n, by omega, ?_⟩⟩, fun h z => ?_⟩)
  · rw [wd_ss, show n + (f - n) = f from by omega]
    exact z
  · obtain ⟨l, z1, z2⟩ := z
    exact h.2 (n + l) (by omega) (by omega) (wd_ss.mp z2)
theorem wo_big {w : Nat → Nat} {s n : Nat} (hn : s < n) : qu_wo w s n = 0 :=
  cn_none (fun e he z => by have := z.1; omega)
theorem wo_le (w : Nat → Nat) (s n : Nat) : qu_wo w s n ≤ s + 1 := cn_le _ _
/-- the greatest of the longest stretches -/
noncomputable def wd_mx (w tg : Nat → Nat) (s t : Nat) : Nat → Nat
  | 0 => 0
  | i + 1 => if wd_lf w tg s t i ≤ wd_mx w tg s t i then wd_mx w tg s t i else wd_lf w tg s t i
theorem wd_mx_le (w tg : Nat → Nat) (s t : Nat) : ∀ i, wd_mx w tg s t i ≤ t
  | 0 => Nat.zero_le _
  | i + 1 => by
    have := wd_mx_le w tg s t i
    have := wd_lf_le w tg s t i
    rw [wd_mx]
    split <;> omega
/-- the first place with a given longest stretch, or 0 -/
def wd_at (w tg : Nat → Nat) (s t b r : Nat) : Prop := (r < t ∧ wd_lf w tg s t r = b ∧ ∀ j, j < r → wd_lf w tg s t j ≠ b) ∨ (r = 0 ∧ ∀ j, j < t → wd_lf w tg s t j ≠ b)
theorem wd_at_ex (w tg : Nat → Nat) (s t b : Nat) : ∃ r, wd_at w tg s t b r := by
  by_cases h : ∃ j, j < t ∧ wd_lf w tg s t j = b
  · obtain ⟨r, h1, h2⟩ := pk_least _ h
    exact ⟨r, Or.inl ⟨h1.1, h1.2, fun j hj z => h2 j hj ⟨by omega, z⟩⟩⟩
  · exact ⟨0, Or.inr ⟨rfl, fun j hj z => h ⟨j, hj, z⟩⟩⟩
end
section
/-! the reference's walks: each method's answer in pure terms -/
theorem ix_e (k c : Nat) : nI k * 4 + nI c = nI (k * 4 + c) := by
  rw [show (4 : Int32) = nI 4 from rfl, pk_mul, nI_add]
theorem yi_let {a b : Nat} (ha : a < 4) (hb : b < 4) : nI a = nI b ↔ a = b := nI_eq (by omega) (by omega)
def sx_D (s t : Nat) (w tg : Nat → Nat) : Prop := s ≤ 32 ∧ t ≤ 24 ∧ (∀ j, w j < 4) ∧ ∀ j, tg j < 4
section
variable {s t : Nat} {w tg : Nat → Nat} {a_best : Nat → Int32} {post : Int32 → Prop}
theorem ys_st (D : sx_D s t w tg) {k i n : Nat} (hk : k + n ≤ s) (hi : i + n ≤ t) (h1 : wd_st w tg k i n → post 1) (h0 : ¬ wd_st w tg k i n → post 0) :
    ∀ d x m, x + d = n → d < m → wd_st w tg k i x → wY_standsAt_15 post (nI k) (nI i) (nI n) (nI s) (nI t) (fun j => nI (w j)) (fun j => nI (tg j)) a_best m (nI x) := by
  obtain ⟨hs, ht, hw, htg⟩ := D
  intro d
  induction d with
  | zero =>
    intro x m hx hm h
    obtain ⟨m, rfl⟩ : ∃ q, m = q + 1 := ⟨m - 1, by omega⟩
    have e : x = n := by omega
    subst e
    exact pk_le x x (fun _ => h1 h) (fun z => by omega)
  | succ d ih =>
    intro x m hx hm h
    obtain ⟨m, rfl⟩ : ∃ q, m = q + 1 := ⟨m - 1, by omega⟩
    refine pk_le n x (fun z => by omega) (fun _ => ⟨pk_in (k + x) 32 (by omega) (nI_add k x), pk_in (i + x) 24 (by omega) (nI_add i x), ?_⟩)
    have e1 : (nI k + nI x).toNatClampNeg = k + x := pk_cl (k + x) (nI_add k x)
    have e2 : (nI i + nI x).toNatClampNeg = i + x := pk_cl (i + x) (nI_add i x)
    rw [e1, e2]
    refine pk_eq (w (k + x)) (tg (i + x)) (fun z => nm_r (nI_1 x) (ih (x + 1) m (by omega) (by omega) (wd_stS h z))) (fun z => h0 (fun y => z (y x (by omega)))) rfl rfl (by have := hw (k + x); omega) (by have := htg (i + x); omega)
theorem ys_stands (D : sx_D s t w tg) {k i n : Nat} (hk : k ≤ 64) (hi : i + n ≤ t) (h1 : k + n ≤ s ∧ wd_st w tg k i n → post 1) (h0 : ¬ (k + n ≤ s ∧ wd_st w tg k i n) → post 0) :
    wpY_standsAt post (nI s, nI t, fun j => nI (w j), fun j => nI (tg j), a_best) (nI k) (nI i) (nI n) := by
  have hs := D.1
  have ht := D.2.1
  refine pk_le (k + n) s (fun z => ⟨n + 1, ?_⟩) (fun z => h0 (fun y => by omega)) (nI_add k n)
  have := ys_st (a_best := a_best) D z hi (fun y => h1 ⟨z, y⟩) (fun y => h0 (fun v => y v.2)) n 0 (n + 1) (by omega) (by omega) (wd_st0 w tg k i)
  exact this
theorem ys_pl (D : sx_D s t w tg) {i n : Nat} (hi : i + n ≤ t) (h1 : ∀ k, k + n ≤ s → wd_st w tg k i n → (∀ j, j < k → ¬ wd_st w tg j i n) → post (nI k)) (h0 : ¬ wd_F w tg s i n → post (-4)) :
    ∀ d k m, k + d = s + 1 → d < m → (∀ j, j < k → ¬ wd_st w tg j i n) → wY_placeOf_2 post (nI i) (nI n) (nI s) (nI t) (fun j => nI (w j)) (fun j => nI (tg j)) a_best m (nI k) := by
  have hs := D.1
  have ht := D.2.1
  intro d
  induction d with
  | zero =>
    intro k m hk hm h
    obtain ⟨m, rfl⟩ : ∃ q, m = q + 1 := ⟨m - 1, by omega⟩
    refine pk_lt s (k + n) (fun _ => h0 (fun z => ?_)) (fun z => by omega) rfl (nI_add k n)
    obtain ⟨j, z1, z2⟩ := z
    exact h j (by omega) z2
  | succ d ih =>
    intro k m hk hm h
    obtain ⟨m, rfl⟩ : ∃ q, m = q + 1 := ⟨m - 1, by omega⟩
    refine pk_lt s (k + n) (fun y => h0 (fun z => ?_)) (fun z => ?_) rfl (nI_add k n)
    · obtain ⟨j, z1, z2⟩ := z
      exact h j (by omega) z2
    · refine ys_stands D (by omega) hi (fun y => ?_) (fun y => ?_)
      · exact br_f (by decide) (h1 k y.1 y.2 h)
      · refine br_t rfl (nm_r (nI_1 k) (ih (k + 1) m (by omega) (by omega) (fun j hj => ?_)))
        by_cases e : j = k
        · rw [e]
          exact fun v => y ⟨z, v⟩
        · exact h j (by omega)
theorem ys_place (D : sx_D s t w tg) {i n : Nat} (hi : i + n ≤ t) (h1 : ∀ k, k + n ≤ s → wd_st w tg k i n → (∀ j, j < k → ¬ wd_st w tg j i n) → post (nI k)) (h0 : ¬ wd_F w tg s i n → post (-4)) :
    wpY_placeOf post (nI s, nI t, fun j => nI (w j), fun j => nI (tg j), a_best) (nI i) (nI n) :=
  ⟨s + 2, ys_pl D hi h1 h0 (s + 1) 0 (s + 2) (by omega) (by omega) (fun j hj => by omega)⟩
theorem yi_n4 {k : Nat} (h : k < 2 ^ 31) : ¬ nI k = -4 := by
  intro e
  have := congrArg Int32.toInt e
  rw [nI_toInt h, show (-4 : Int32).toInt = -4 from by decide] at this
  omega
/-- whether a stretch occurs -/
theorem ys_has (D : sx_D s t w tg) {i n : Nat} (hi : i + n ≤ t) (h1 : wd_F w tg s i n → ∀ r : Int32, ¬ r = -4 → post r) (h0 : ¬ wd_F w tg s i n → post (-4)) :
    wpY_placeOf post (nI s, nI t, fun j => nI (w j), fun j => nI (tg j), a_best) (nI i) (nI n) :=
  ys_place D hi (fun k a b _ => h1 ⟨k, a, b⟩ _ (yi_n4 (by have := D.1; omega))) h0
theorem ys_lf (D : sx_D s t w tg) {i : Nat} (hi : i ≤ t) (hp : post (nI (wd_lf w tg s t i))) :
    ∀ d k m, k + d = t - i → d < m → wY_longestFrom_4 post (nI i) (nI s) (nI t) (fun j => nI (w j)) (fun j => nI (tg j)) a_best m (nI (wd_go (fun n => wd_F w tg s i n) k)) (nI (k + 1)) := by
  have hs := D.1
  have ht := D.2.1
  intro d
  induction d with
  | zero =>
    intro k m hk hm
    obtain ⟨m, rfl⟩ : ∃ q, m = q + 1 := ⟨m - 1, by omega⟩
    refine pk_lt (t - i) (k + 1) (fun _ => ?_) (fun z => by omega) (pk_sub hi)
    rw [show k = t - i from by omega]
    exact hp
  | succ d ih =>
    intro k m hk hm
    obtain ⟨m, rfl⟩ : ∃ q, m = q + 1 := ⟨m - 1, by omega⟩
    refine pk_lt (t - i) (k + 1) (fun _ => by omega) (fun z => ?_) (pk_sub hi)
    refine ys_has D (by omega) (fun y r hr => br_f hr (nm_r (nI_1 (k + 1)) ?_)) (fun y => br_t rfl (nm_r (nI_1 (k + 1)) ?_))
    · have := ih (k + 1) m (by omega) (by omega)
      rw [wd_go_t (F := fun n => wd_F w tg s i n) y] at this
      exact this
    · have := ih (k + 1) m (by omega) (by omega)
      rw [wd_go_f (F := fun n => wd_F w tg s i n) y] at this
      exact this
theorem ys_long (D : sx_D s t w tg) {i : Nat} (hi : i ≤ t) (hp : post (nI (wd_lf w tg s t i))) : wpY_longestFrom post (nI s, nI t, fun j => nI (w j), fun j => nI (tg j), a_best) (nI i) :=
  ⟨t - i + 1, ys_lf D hi hp (t - i) 0 (t - i + 1) (by omega) (by omega)⟩
theorem yi_z {a : Nat} (h : a < 2 ^ 31) : nI a = 0 ↔ a = 0 := nI_eq (b := 0) h (by omega)
theorem ys_bg (D : sx_D s t w tg) {p : Nat} (hp31 : p < 2 ^ 31) (hp : post (nI (wd_bg w tg s t p))) :
    ∀ d q m, q ≤ p → t - wd_bg w tg s t q ≤ d → d < m → wY_beginOf_4 post (nI p) (nI s) (nI t) (fun j => nI (w j)) (fun j => nI (tg j)) a_best m (nI (wd_bg w tg s t q)) (nI q) := by
  have hs := D.1
  have ht := D.2.1
  intro d
  induction d with
  | zero =>
    intro q m hq hd hm
    obtain ⟨m, rfl⟩ : ∃ q, m = q + 1 := ⟨m - 1, by omega⟩
    have e := wd_bg_st (w := w) (tg := tg) (s := s) (t := t) (p := q) (by omega) p hq
    have b := wd_bg_le w tg s t q
    rw [e] at hp
    exact pk_le p q (fun _ => hp) (fun _ => pk_le t (wd_bg w tg s t q) (fun _ => hp) (fun z => by omega))
  | succ d ih =>
    intro q m hq hd hm
    obtain ⟨m, rfl⟩ : ∃ q, m = q + 1 := ⟨m - 1, by omega⟩
    have b := wd_bg_le w tg s t q
    refine pk_le p q (fun z => ?_) (fun z => pk_le t (wd_bg w tg s t q) (fun y => ?_) (fun y => ?_))
    · rw [show p = q from by omega] at hp
      exact hp
    · rw [wd_bg_st y p hq] at hp
      exact hp
    · have s1 := wd_sg_1 w tg s t (wd_bg w tg s t q)
      have l := wd_lf_le w tg s t (wd_bg w tg s t q)
      have n := ih (q + 1) m (by omega) (by rw [wd_bg_t y]; omega) (by omega)
      rw [wd_bg_t y] at n
      refine ys_long D b (br_c (fun x => ?_) (fun x => ?_))
      · rw [yi_z (by omega)] at x
        have e : wd_sg w tg s t (wd_bg w tg s t q) = 1 := by unfold wd_sg; rw [if_pos x]
        rw [e] at n
        exact nm_r (nI_1 _) (nm_r (nI_1 q) n)
      · rw [yi_z (by omega)] at x
        have e : wd_sg w tg s t (wd_bg w tg s t q) = wd_lf w tg s t (wd_bg w tg s t q) := by unfold wd_sg; rw [if_neg x]
        rw [e] at n
        exact nm_r (nI_add _ _) (nm_r (nI_1 q) n)
theorem ys_begin (D : sx_D s t w tg) {p : Nat} (hp31 : p < 2 ^ 31) (hp : post (nI (wd_bg w tg s t p))) : wpY_beginOf post (nI s, nI t, fun j => nI (w j), fun j => nI (tg j), a_best) (nI p) :=
  ⟨t + 1, ys_bg D hp31 hp t 0 (t + 1) (by omega) (by omega) (by omega)⟩
theorem ys_begN {p : Int32} (h : p < 0) (hp : post 0) : wpY_beginOf post (nI s, nI t, fun j => nI (w j), fun j => nI (tg j), a_best) p :=
  ⟨1, br_t (Int32.le_of_lt h) hp⟩
theorem ys_pieces (D : sx_D s t w tg) {r : Nat} (hr : r ≤ 24) (h1 : wd_bg w tg s t r = t) (h2 : ∀ p, p < r → wd_bg w tg s t p < t) (hp : post (nI r)) : wpY_pieces post (nI s, nI t, fun j => nI (w j), fun j => nI (tg j), a_best) := by
  have ht := D.2.1
  have key : ∀ d q m, q + d = r → d < m → wY_pieces_2 post (nI s) (nI t) (fun j => nI (w j)) (fun j => nI (tg j)) a_best m (nI q) := by
    intro d
    induction d with
    | zero =>
      intro q m hq hm
      obtain ⟨m, rfl⟩ : ∃ q, m = q + 1 := ⟨m - 1, by omega⟩
      have e : q = r := by omega
      subst e
      refine pk_le 24 q (fun _ => hp) (fun z => ys_begin D (by omega) ?_)
      exact pk_le t (wd_bg w tg s t q) (fun _ => hp) (fun y => by omega)
    | succ d ih =>
      intro q m hq hm
      obtain ⟨m, rfl⟩ : ∃ q, m = q + 1 := ⟨m - 1, by omega⟩
      have b := h2 q (by omega)
      refine pk_le 24 q (fun _ => by omega) (fun z => ys_begin D (by omega) ?_)
      exact pk_le t (wd_bg w tg s t q) (fun _ => by omega) (fun y => nm_r (nI_1 q) (ih (q + 1) m (by omega) (by omega)))
  exact ⟨r + 1, key r 0 (r + 1) (by omega) (by omega)⟩
end
end
section
/-! the reference's walks, second half -/
section
variable {s t : Nat} {w tg : Nat → Nat} {a_best : Nat → Int32} {post : Int32 → Prop}
theorem ys_occ (D : sx_D s t w tg) {i j : Nat} (hij : i ≤ j) (hj : j ≤ t) (hp : post (nI (cn_n (fun k => k + (j - i) ≤ s ∧ wd_st w tg k i (j - i)) (s + 1)))) : wpY_occurrences post (nI s, nI t, fun j => nI (w j), fun j => nI (tg j), a_best) (nI i) (nI j) := by
  have hs := D.1
  have ht := D.2.1
  have key : ∀ d k m, k + d = s + 1 → d < m → wY_occurrences_24 post (nI i) (nI j) (nI s) (nI t) (fun j => nI (w j)) (fun j => nI (tg j)) a_best m (nI (cn_n (fun k => k + (j - i) ≤ s ∧ wd_st w tg k i (j - i)) k)) (nI k) := by
    intro d
    induction d with
    | zero =>
      intro k m hk hm
      obtain ⟨m, rfl⟩ : ∃ q, m = q + 1 := ⟨m - 1, by omega⟩
      refine pk_lt s k (fun _ => ?_) (fun z => by omega)
      rw [show k = s + 1 from by omega]
      exact hp
    | succ d ih =>
      intro k m hk hm
      obtain ⟨m, rfl⟩ : ∃ q, m = q + 1 := ⟨m - 1, by omega⟩
      have n := ih (k + 1) m (by omega) (by omega)
      refine pk_lt s k (fun _ => by omega) (fun z => ?_)
      rw [pk_sub hij]
      refine ys_stands D (by omega) (by omega) (fun y => ?_) (fun y => ?_)
      · rw [cn_t (f := fun k => k + (j - i) ≤ s ∧ wd_st w tg k i (j - i)) y] at n
        exact br_f (by decide) (nm_r (nI_1 _) (nm_r (nI_1 k) n))
      · rw [cn_f (f := fun k => k + (j - i) ≤ s ∧ wd_st w tg k i (j - i)) y] at n
        exact br_t rfl (nm_r (nI_1 k) n)
  refine br_f (nI_pos (by omega)) (pk_lt j i (fun z => by omega) (fun _ => pk_le j t (fun _ => ⟨s + 2, ?_⟩) (fun z => by omega)))
  exact key (s + 1) 0 (s + 2) (by omega) (by omega)
theorem ys_longest (D : sx_D s t w tg) (hp : post (nI (wd_mx w tg s t t))) : wpY_longest post (nI s, nI t, fun j => nI (w j), fun j => nI (tg j), a_best) := by
  have ht := D.2.1
  have key : ∀ d i m, i + d = t → d < m → wY_longest_4 post (nI s) (nI t) (fun j => nI (w j)) (fun j => nI (tg j)) a_best m (nI (wd_mx w tg s t i)) (nI i) := by
    intro d
    induction d with
    | zero =>
      intro i m hi hm
      obtain ⟨m, rfl⟩ : ∃ q, m = q + 1 := ⟨m - 1, by omega⟩
      have e : i = t := by omega
      rw [e]
      exact pk_le t t (fun _ => hp) (fun z => by omega)
    | succ d ih =>
      intro i m hi hm
      obtain ⟨m, rfl⟩ : ∃ q, m = q + 1 := ⟨m - 1, by omega⟩
      have n := ih (i + 1) m (by omega) (by omega)
      rw [wd_mx] at n
      have a := wd_mx_le w tg s t i
      have b := wd_lf_le w tg s t i
      refine pk_le t i (fun z => by omega) (fun z => ys_long D (by omega) ?_)
      refine pk_le (wd_lf w tg s t i) (wd_mx w tg s t i) (fun y => ?_) (fun y => ?_)
      · rw [if_pos y] at n
        exact nm_r (nI_1 i) n
      · rw [if_neg (by omega)] at n
        exact nm_r (nI_1 i) n
  exact ⟨t + 1, key t 0 (t + 1) (by omega) (by omega)⟩
theorem ys_longAt (D : sx_D s t w tg) {b r : Nat} (hb : b ≤ t) (hr : wd_at w tg s t b r) (hp : post (nI r)) : ∀ d i m, i + d = t → d < m → (∀ j, j < i → wd_lf w tg s t j ≠ b) → wY_longestAt_7 post (nI b) (nI s) (nI t) (fun j => nI (w j)) (fun j => nI (tg j)) a_best m (nI i) := by
  have ht := D.2.1
  intro d
  induction d with
  | zero =>
    intro i m hi hm h
    obtain ⟨m, rfl⟩ : ∃ q, m = q + 1 := ⟨m - 1, by omega⟩
    refine pk_le t i (fun _ => ?_) (fun z => by omega)
    rcases hr with z | z
    · exact absurd z.2.1 (h r (by omega))
    · rw [z.1] at hp
      exact hp
  | succ d ih =>
    intro i m hi hm h
    obtain ⟨m, rfl⟩ : ∃ q, m = q + 1 := ⟨m - 1, by omega⟩
    have l := wd_lf_le w tg s t i
    refine pk_le t i (fun z => by omega) (fun z => ys_long D (by omega) ?_)
    refine pk_eq (wd_lf w tg s t i) b (fun y => ?_) (fun y => nm_r (nI_1 i) (ih (i + 1) m (by omega) (by omega) (fun j hj => ?_)))
    · rcases hr with x | x
      · have e : r = i := by
          have a : ¬ i < r := fun v => x.2.2 i v y
          have c : ¬ r < i := fun v => h r v x.2.1
          omega
        rw [e] at hp
        exact hp
      · exact absurd y (x.2 i (by omega))
    · by_cases e : j = i
      · rw [e]; exact y
      · exact h j (by omega)
theorem ys_sm (D : sx_D s t w tg) {l k n : Nat} (hl : l + n ≤ s) (hk : k + n ≤ s) (h1 : wd_st w w l k n → post 1) (h0 : ¬ wd_st w w l k n → post 0) : wpY_same post (nI s, nI t, fun j => nI (w j), fun j => nI (tg j), a_best) (nI l) (nI k) (nI n) := by
  obtain ⟨hs, ht, hw, htg⟩ := D
  have key : ∀ d x m, x + d = n → d < m → wd_st w w l k x → wY_same_3 post (nI l) (nI k) (nI n) (nI s) (nI t) (fun j => nI (w j)) (fun j => nI (tg j)) a_best m (nI x) := by
    intro d
    induction d with
    | zero =>
      intro x m hx hm h
      obtain ⟨m, rfl⟩ : ∃ q, m = q + 1 := ⟨m - 1, by omega⟩
      have e : x = n := by omega
      subst e
      exact pk_le x x (fun _ => h1 h) (fun z => by omega)
    | succ d ih =>
      intro x m hx hm h
      obtain ⟨m, rfl⟩ : ∃ q, m = q + 1 := ⟨m - 1, by omega⟩
      refine pk_le n x (fun z => by omega) (fun _ => ⟨pk_in (l + x) 32 (by omega) (nI_add l x), pk_in (k + x) 32 (by omega) (nI_add k x), ?_⟩)
      have e1 : (nI l + nI x).toNatClampNeg = l + x := pk_cl (l + x) (nI_add l x)
      have e2 : (nI k + nI x).toNatClampNeg = k + x := pk_cl (k + x) (nI_add k x)
      rw [e1, e2]
      refine pk_eq (w (l + x)) (w (k + x)) (fun z => nm_r (nI_1 x) (ih (x + 1) m (by omega) (by omega) (wd_stS h z))) (fun z => h0 (fun y => z (y x (by omega)))) rfl rfl (by have := hw (l + x); omega) (by have := hw (k + x); omega)
  exact ⟨n + 1, key n 0 (n + 1) (by omega) (by omega) (wd_st0 w w l k)⟩
theorem ys_before (D : sx_D s t w tg) {k n : Nat} (hk : k + n ≤ s) (h1 : (∃ l, l < k ∧ wd_st w w l k n) → post 1) (h0 : wo_g w n k → post 0) : wpY_standsBefore post (nI s, nI t, fun j => nI (w j), fun j => nI (tg j), a_best) (nI k) (nI n) := by
  have hs := D.1
  have key : ∀ d l m, l + d = k → d < m → (∀ j, j < l → ¬ wd_st w w j k n) → wY_standsBefore_2 post (nI k) (nI n) (nI s) (nI t) (fun j => nI (w j)) (fun j => nI (tg j)) a_best m (nI l) := by
    intro d
    induction d with
    | zero =>
      intro l m hl hm h
      obtain ⟨m, rfl⟩ : ∃ q, m = q + 1 := ⟨m - 1, by omega⟩
      have e : l = k := by omega
      subst e
      exact pk_le l l (fun _ => h0 (fun z => by obtain ⟨j, z1, z2⟩ := z; exact h j z1 z2)) (fun z => by omega)
    | succ d ih =>
      intro l m hl hm h
      obtain ⟨m, rfl⟩ : ∃ q, m = q + 1 := ⟨m - 1, by omega⟩
      refine pk_le k l (fun z => by omega) (fun _ => ys_sm D (by omega) hk (fun y => ?_) (fun y => ?_))
      · exact br_f (by decide) (h1 ⟨l, by omega, y⟩)
      · refine br_t rfl (nm_r (nI_1 l) (ih (l + 1) m (by omega) (by omega) (fun j hj => ?_)))
        by_cases e : j = l
        · rw [e]; exact y
        · exact h j (by omega)
  exact ⟨k + 1, key k 0 (k + 1) (by omega) (by omega) (fun j hj => by omega)⟩
theorem ys_wordsOf (D : sx_D s t w tg) {n : Nat} (h31 : n < 2 ^ 31) (hn : 1 ≤ n) (hp : post (nI (qu_wo w s n))) : wpY_wordsOf post (nI s, nI t, fun j => nI (w j), fun j => nI (tg j), a_best) (nI n) := by
  have hs := D.1
  have key : n ≤ s → ∀ d k m, k + d = s - n + 1 → d < m → wY_wordsOf_19 post (nI n) (nI s) (nI t) (fun j => nI (w j)) (fun j => nI (tg j)) a_best m (nI (cn_n (wo_g w n) k)) (nI k) := by
    intro hns d
    induction d with
    | zero =>
      intro k m hk hm
      obtain ⟨m, rfl⟩ : ∃ q, m = q + 1 := ⟨m - 1, by omega⟩
      refine pk_lt s (k + n) (fun _ => ?_) (fun z => by omega) rfl (nI_add k n)
      rw [show k = s - n + 1 from by omega, wo_eq hns]
      exact hp
    | succ d ih =>
      intro k m hk hm
      obtain ⟨m, rfl⟩ : ∃ q, m = q + 1 := ⟨m - 1, by omega⟩
      have q := ih (k + 1) m (by omega) (by omega)
      refine pk_lt s (k + n) (fun _ => by omega) (fun z => ?_) rfl (nI_add k n)
      refine ys_before D (by omega) (fun y => ?_) (fun y => ?_)
      · rw [cn_f (fun v => v y)] at q
        exact br_f (by decide) (nm_r (nI_1 k) q)
      · rw [cn_t y] at q
        exact br_t rfl (nm_r (nI_1 _) (nm_r (nI_1 k) q))
  refine pk_lt n 1 (fun z => by omega) (fun _ => pk_le n s (fun z => ⟨s - n + 2, key z (s - n + 1) 0 (s - n + 2) (by omega) (by omega)⟩) (fun z => ?_))
  rw [wo_big z] at hp
  exact hp
theorem ys_words (D : sx_D s t w tg) (hp : post (nI (sm_m (fun n => if n = 0 then 0 else qu_wo w s n) (s + 1)))) : wpY_words post (nI s, nI t, fun j => nI (w j), fun j => nI (tg j), a_best) := by
  have hs := D.1
  have key : ∀ d k m, 1 ≤ k → k + d = s + 1 → d < m → wY_words_4 post (nI s) (nI t) (fun j => nI (w j)) (fun j => nI (tg j)) a_best m (nI (sm_m (fun n => if n = 0 then 0 else qu_wo w s n) k)) (nI k) := by
    intro d
    induction d with
    | zero =>
      intro k m k1 hk hm
      obtain ⟨m, rfl⟩ : ∃ q, m = q + 1 := ⟨m - 1, by omega⟩
      refine pk_lt s k (fun _ => ?_) (fun z => by omega)
      rw [show k = s + 1 from by omega]
      exact hp
    | succ d ih =>
      intro k m k1 hk hm
      obtain ⟨m, rfl⟩ : ∃ q, m = q + 1 := ⟨m - 1, by omega⟩
      have q := ih (k + 1) m (by omega) (by omega) (by omega)
      have e : sm_m (fun n => if n = 0 then 0 else qu_wo w s n) (k + 1) = sm_m (fun n => if n = 0 then 0 else qu_wo w s n) k + qu_wo w s k := by
        show sm_m (fun n => if n = 0 then 0 else qu_wo w s n) k + (if k = 0 then 0 else qu_wo w s k) = _
        rw [if_neg (by omega)]
      rw [e] at q
      exact pk_lt s k (fun _ => by omega) (fun z => ys_wordsOf D (by omega) k1 (nm_r (nI_add _ _) (nm_r (nI_1 k) q)))
  exact ⟨s + 1, key s 1 (s + 1) (by omega) (by omega) (by omega)⟩
theorem ys_absent (D : sx_D s t w tg) (hp : ∀ r, 1 ≤ r → (∀ m, 1 ≤ m → m < r → qu_wo w s m = 4 ^ m) → qu_wo w s r ≠ 4 ^ r → post (nI r)) : wpY_shortestAbsent post (nI s, nI t, fun j => nI (w j), fun j => nI (tg j), a_best) := by
  have hs := D.1
  have key : ∀ d k m, 1 ≤ k → k + d = 3 → d < m → (∀ m, 1 ≤ m → m < k → qu_wo w s m = 4 ^ m) → wY_shortestAbsent_4 post (nI s) (nI t) (fun j => nI (w j)) (fun j => nI (tg j)) a_best m (nI k) (nI (4 ^ k)) := by
    intro d
    induction d with
    | zero =>
      intro k m k1 hk hm h
      obtain ⟨m, rfl⟩ : ∃ q, m = q + 1 := ⟨m - 1, by omega⟩
      have e : k = 3 := by omega
      subst e
      have l := wo_le w s 3
      refine pk_le 4 3 (fun z => by omega) (fun _ => ys_wordsOf D (by omega) k1 ?_)
      exact pk_eq (qu_wo w s 3) (4 ^ 3) (fun z => by omega) (fun z => hp 3 k1 h z)
    | succ d ih =>
      intro k m k1 hk hm h
      obtain ⟨m, rfl⟩ : ∃ q, m = q + 1 := ⟨m - 1, by omega⟩
      have l := wo_le w s k
      have p : 4 ^ k < 2 ^ 31 := Nat.lt_of_le_of_lt (Nat.pow_le_pow_right (by decide) (show k ≤ 3 by omega)) (by decide)
      refine pk_le 4 k (fun z => by omega) (fun _ => ys_wordsOf D (by omega) k1 ?_)
      refine pk_eq (qu_wo w s k) (4 ^ k) (fun z => nm_r (nI_1 k) ?_) (fun z => hp k k1 h z) rfl rfl (by omega) p
      have q := ih (k + 1) m (by omega) (by omega) (by omega) (fun x x1 x2 => by
        by_cases e : x = k
        · rw [e]; exact z
        · exact h x x1 (by omega))
      have e4 : (4 : Int32) * nI (4 ^ k) = nI (4 ^ (k + 1)) := by
        rw [show (4 : Int32) = nI 4 from rfl, pk_mul, Nat.pow_succ, Nat.mul_comm]
      exact nm_r e4 q
  exact ⟨4, key 2 1 4 (by omega) (by omega) (by omega) (fun m h1 h2 => by omega)⟩
theorem ys_repeat (D : sx_D s t w tg) (hp : ∀ r, qu_rep w s r → post (nI r)) : wpY_longestRepeat post (nI s, nI t, fun j => nI (w j), fun j => nI (tg j), a_best) := by
  have hs := D.1
  have key : ∀ d n m b, 1 ≤ n → s - n ≤ d → n ≤ 33 → d < m → b ≤ s → (b = 0 ∨ qu_tw w s b) → (∀ x, x < n → qu_tw w s x → x ≤ b) → wY_longestRepeat_4 post (nI s) (nI t) (fun j => nI (w j)) (fun j => nI (tg j)) a_best m (nI b) (nI n) := by
    intro d
    have fin : ∀ n b, s ≤ n → (b = 0 ∨ qu_tw w s b) → (∀ x, x < n → qu_tw w s x → x ≤ b) → post (nI b) := by
      intro n b h1 h2 h3
      refine hp b ⟨h2, fun x hx => h3 x ?_ hx⟩
      obtain ⟨_, f, e, a1, a2, a3, _⟩ := hx
      omega
    induction d with
    | zero =>
      intro n m b n1 hd hn hm hb h1 h2
      obtain ⟨m, rfl⟩ : ∃ q, m = q + 1 := ⟨m - 1, by omega⟩
      exact pk_le s n (fun z => fin n b z h1 h2) (fun z => by omega)
    | succ d ih =>
      intro n m b n1 hd hn hm hb h1 h2
      obtain ⟨m, rfl⟩ : ∃ q, m = q + 1 := ⟨m - 1, by omega⟩
      refine pk_le s n (fun z => fin n b z h1 h2) (fun z => ys_wordsOf D (by omega) n1 ?_)
      have tw := qu_twY (w := w) (s := s) n1 (by omega)
      have l := wo_le w s n
      have e : nI s - nI n + 1 = nI (s - n + 1) := by rw [pk_sub (by omega), nI_1]
      refine pk_le (s - n + 1) (qu_wo w s n) (fun y => ?_) (fun y => ?_) e
      · refine nm_r (nI_1 n) (ih (n + 1) m b (by omega) (by omega) (by omega) (by omega) hb h1 (fun x hx ht => ?_))
        by_cases ex : x = n
        · rw [ex] at ht
          have := tw.mp ht
          omega
        · exact h2 x (by omega) ht
      · have yt := tw.mpr y
        refine nm_r (nI_1 n) (ih (n + 1) m n (by omega) (by omega) (by omega) (by omega) (by omega) (Or.inr yt) (fun x hx ht => by omega))
  exact ⟨s + 1, key s 1 (s + 1) 0 (by omega) (by omega) (by omega) (by omega) (by omega) (Or.inl rfl) (fun x hx ht => by have := ht.1; omega)⟩
end
section
variable {s t : Nat} {w tg : Nat → Nat} {post : Int32 → SY → Prop}
def ch_in (w tg : Nat → Nat) (s copy add j i b : Nat) (cY : Nat → Nat) : Prop :=
  b ≤ cY j + add ∧ (∀ x, x < i → wd_F w tg s x (j + 1 - x) → b ≤ cY x + copy) ∧ ∃ x c, x < j + 1 ∧ dp_R w tg s copy add x (j + 1) c ∧ b = cY x + c
theorem ys_chIn (D : sx_D s t w tg) {copy add j n31 : Nat} {cY : Nat → Nat} (hc : copy ≤ 100) (hj : j < t) (hb : ∀ x, x ≤ j → cY x ≤ 100 * x) (ha : add ≤ 100)
    (J : ∀ b a, ch_in w tg s copy add j (j + 1) b cY → (∀ x, x ≤ j → a x = nI (cY x)) → a (j + 1) = nI b → wY_cheapest_31 post (nI copy) (nI add) (nI s) (nI t) n31 (nI (j + 2)) (fun j => nI (w j)) (fun j => nI (tg j)) a) :
    ∀ d i m b a, i + d = j + 1 → d < m → ch_in w tg s copy add j i b cY → (∀ x, x ≤ j → a x = nI (cY x)) → a (j + 1) = nI b →
      wY_cheapest_58 post (wY_cheapest_31 post (nI copy) (nI add) (nI s) (nI t) n31) (nI copy) (nI add) (nI (j + 1)) (nI s) (nI t) m (nI i) (fun j => nI (w j)) (fun j => nI (tg j)) a := by
  have hs := D.1
  have ht := D.2.1
  intro d
  induction d with
  | zero =>
    intro i m b a hi hm h1 h2 h3
    obtain ⟨m, rfl⟩ : ∃ q, m = q + 1 := ⟨m - 1, by omega⟩
    have e : i = j + 1 := by omega
    subst e
    exact pk_le (j + 1) (j + 1) (fun _ => nm_r (nI_1 (j + 1)) (J b a h1 h2 h3)) (fun z => by omega)
  | succ d ih =>
    intro i m b a hi hm h1 h2 h3
    obtain ⟨m, rfl⟩ : ∃ q, m = q + 1 := ⟨m - 1, by omega⟩
    refine pk_le (j + 1) i (fun z => by omega) (fun _ => ⟨pk_in i 25 (by omega), pk_in (j + 1) 25 (by omega), ?_⟩)
    rw [nI_clamp (show j + 1 < 2 ^ 31 by omega), nI_clamp (show i < 2 ^ 31 by omega), h3, h2 i (by omega)]
    have b1 := hb i (by omega)
    have b2 := hb j (Nat.le_refl _)
    have b3 := h1.1
    refine pk_le b (cY i + copy) (fun y => ?_) (fun y => ?_) rfl (nI_add _ _)
    · refine nm_r (nI_1 i) (ih (i + 1) m b a (by omega) (by omega) ⟨h1.1, fun x hx hF => ?_, h1.2.2⟩ h2 h3)
      by_cases e : x = i
      · rw [e]; exact y
      · exact h1.2.1 x (by omega) hF
    · rw [pk_sub (show i ≤ j + 1 by omega)]
      refine ys_has D (by omega) (fun hF r hr => ?_) (fun hF => ?_)
      · refine br_f hr ⟨pk_in i 25 (by omega), pk_in (j + 1) 25 (by omega), nm_e (nm_r (nI_1 i) ?_)⟩
        refine ih (i + 1) m (cY i + copy) _ (by omega) (by omega) ⟨by omega, fun x hx hF2 => ?_, ⟨i, copy, by omega, Or.inr ⟨hF, rfl⟩, rfl⟩⟩ (fun x hx => ?_) ?_
        · by_cases e : x = i
          · rw [e]; exact Nat.le_refl _
          · have := h1.2.1 x (by omega) hF2
            omega
        · rw [pk_un (by omega)]
          exact h2 x hx
        · rw [pk_us, nI_add]
      · refine br_t rfl (nm_r (nI_1 i) (ih (i + 1) m b a (by omega) (by omega) ⟨h1.1, fun x hx hF2 => ?_, h1.2.2⟩ h2 h3))
        by_cases e : x = i
        · rw [e] at hF2
          exact absurd hF2 hF
        · exact h1.2.1 x (by omega) hF2
theorem ys_chOut (D : sx_D s t w tg) {copy add : Nat} (hc : copy ≤ 100) (ha : add ≤ 100) (hp : ∀ cY a, dp_Y w tg s copy add cY t → post (nI (cY t)) (nI s, nI t, fun j => nI (w j), fun j => nI (tg j), a)) :
    ∀ d j m cY a, j + d = t → d < m → dp_Y w tg s copy add cY j → (∀ x, x ≤ j → a x = nI (cY x)) → wY_cheapest_31 post (nI copy) (nI add) (nI s) (nI t) m (nI (j + 1)) (fun j => nI (w j)) (fun j => nI (tg j)) a := by
  have hs := D.1
  have ht := D.2.1
  intro d
  induction d with
  | zero =>
    intro j m cY a hj hm h1 h2
    obtain ⟨m, rfl⟩ : ∃ q, m = q + 1 := ⟨m - 1, by omega⟩
    have e : j = t := by omega
    subst e
    refine pk_lt j (j + 1) (fun _ => ⟨pk_in j 25 (by omega), ?_⟩) (fun z => by omega)
    rw [nI_clamp (by omega), h2 j (Nat.le_refl _)]
    exact hp cY a h1
  | succ d ih =>
    intro j m cY a hj hm h1 h2
    obtain ⟨m, rfl⟩ : ∃ q, m = q + 1 := ⟨m - 1, by omega⟩
    have e : nI (j + 1) - 1 = nI j := nI_pred j
    refine pk_lt t (j + 1) (fun z => by omega) (fun _ => ⟨pk_in j 25 (by omega) e, pk_in (j + 1) 25 (by omega), nm_e ⟨j + 2, ?_⟩⟩)
    rw [e, nI_clamp (show j < 2 ^ 31 by omega), nI_clamp (show j + 1 < 2 ^ 31 by omega), h2 j (Nat.le_refl _), nI_add]
    refine ys_chIn D hc (by omega) h1.2.2.2 ha (fun b a' hb h3 h4 => ?_) (j + 1) 0 (j + 2) (cY j + add) _ (by omega) (by omega) ⟨Nat.le_refl _, fun x hx => by omega, ⟨j, add, by omega, Or.inl ⟨rfl, rfl⟩, rfl⟩⟩ (fun x hx => ?_) pk_us
    · refine ih (j + 1) m (fun x => if x = j + 1 then b else cY x) a' (by omega) (by omega) (dp_Yext h1 ha hb.1 hb.2.1 hb.2.2) (fun x hx => ?_)
      by_cases ex : x = j + 1
      · rw [ex, h4]
        exact congrArg nI (if_pos rfl).symm
      · rw [h3 x (by omega)]
        exact congrArg nI (if_neg ex).symm
    · rw [pk_un (by omega)]
      exact h2 x hx
theorem ys_cheapest (D : sx_D s t w tg) {a_best : Nat → Int32} {copy add : Nat} (hc : copy ≤ 100) (ha : add ≤ 100) (hp : ∀ cY a, dp_Y w tg s copy add cY t → post (nI (cY t)) (nI s, nI t, fun j => nI (w j), fun j => nI (tg j), a)) : wpY_cheapest post (nI s, nI t, fun j => nI (w j), fun j => nI (tg j), a_best) (nI copy) (nI add) := by
  refine br_f (nI_pos (by omega)) (pk_lt 100 copy (fun z => by omega) (fun _ => br_f (nI_pos (by omega)) (pk_le add 100 (fun _ => nm_e ⟨t + 1, ?_⟩) (fun z => by omega))))
  exact ys_chOut D hc ha hp t 0 (t + 1) (fun _ => 0) _ (by omega) (by omega) (dp_Yfirst w tg s copy add) (fun x hx => by rw [show x = 0 from by omega, pk_us]; rfl)
end
end
section
/-! the component's walks that change the automaton -/
theorem xg_ne {x : Nat} : x * 4 + 0 = x * 4 := rfl
theorem en_lt {x : Nat} (h : x < 2 ^ 31) : (en_x x < 0 ↔ x = 0) := by
  by_cases z : x = 0
  · rw [en_0 z]
    exact ⟨fun _ => z, fun _ => by decide⟩
  · rw [en_n z]
    exact ⟨fun y => absurd y (nI_pos h), fun y => absurd y z⟩
theorem en_le {x : Nat} (h : x < 2 ^ 31) : (0 ≤ en_x x ↔ x ≠ 0) := by
  by_cases z : x = 0
  · rw [en_0 z]
    exact ⟨fun y => absurd y (by decide), fun y => absurd z y⟩
  · rw [en_n z]
    exact ⟨fun _ => z, fun _ => nI_pos' h⟩
section
variable {f_s f_t f_states f_whole f_counted f_stateAt : Int32} {a_target a_length a_shorter a_firstEnd a_next a_copied a_places a_gap a_cost a_letters : Nat → Int32} {post : Int32 → SX → Prop} {N : Nat}
theorem xg_new31 (hN : N < 65) (hp : ∀ a, (∀ c, c < 4 → a (N * 4 + c) = -1) → (∀ j, j < N * 4 ∨ N * 4 + 4 ≤ j → a j = a_next j) → post (nI N) (f_s, f_t, f_states, f_whole, 0, f_stateAt, a_target, a_length, a_shorter, a_firstEnd, a, a_copied, a_places, a_gap, a_cost, a_letters)) :
    ∀ d c n b, c + d = 4 → d < n → (∀ x, x < c → b (N * 4 + x) = -1) → (∀ j, j < N * 4 ∨ N * 4 + 4 ≤ j → b j = a_next j) → wX_newState_31 post (nI N) f_s f_t f_states f_whole f_counted f_stateAt n (nI c) a_target a_length a_shorter a_firstEnd b a_copied a_places a_gap a_cost a_letters := by
  intro d
  induction d with
  | zero =>
    intro c n b hc hn h1 h2
    obtain ⟨n, rfl⟩ : ∃ q, n = q + 1 := ⟨n - 1, by omega⟩
    have e : c = 4 := by omega
    subst e
    exact pk_le 4 4 (fun _ => hp b h1 h2) (fun z => by omega)
  | succ d ih =>
    intro c n b hc hn h1 h2
    obtain ⟨n, rfl⟩ : ∃ q, n = q + 1 := ⟨n - 1, by omega⟩
    have e : (nI N * 4 + nI c).toNatClampNeg = N * 4 + c := pk_cl (N * 4 + c) (ix_e N c)
    refine pk_le 4 c (fun z => by omega) (fun _ => ⟨pk_in (N * 4 + c) 260 (by omega) (ix_e N c), nm_r (e' := upd b (N * 4 + c) (-1)) (by rw [e]) (nm_r (nI_1 c) ?_)⟩)
    refine ih (c + 1) n _ (by omega) (by omega) (fun x hx => ?_) (fun j hj => ?_)
    · by_cases z : x = c
      · rw [z, pk_us]
      · rw [pk_un (by omega)]
        exact h1 x (by omega)
    · rw [pk_un (by omega)]
      exact h2 j hj
theorem xg_new (hN : N < 65) {p0 : Int32} (hp : ∀ a, (∀ c, c < 4 → a (N * 4 + c) = -1) → (∀ j, j < N * 4 ∨ N * 4 + 4 ≤ j → a j = a_next j) → post (nI N) (f_s, f_t, nI (N + 1), f_whole, 0, f_stateAt, a_target, upd a_length N p0, a_shorter, a_firstEnd, a, upd a_copied N 0, a_places, a_gap, a_cost, a_letters)) : wpX_newState post (f_s, f_t, nI N, f_whole, f_counted, f_stateAt, a_target, a_length, a_shorter, a_firstEnd, a_next, a_copied, a_places, a_gap, a_cost, a_letters) p0 := by
  have e : (nI N).toNatClampNeg = N := nI_clamp (by omega)
  refine nm_r (nI_1 N) ⟨pk_in N 65 hN, nm_r (e' := upd a_length N p0) (by rw [e]) ⟨pk_in N 65 hN, nm_r (e' := upd a_copied N 0) (by rw [e]; rfl) ⟨5, ?_⟩⟩⟩
  exact xg_new31 (f_states := nI (N + 1)) (a_length := upd a_length N p0) (a_copied := upd a_copied N 0) hN hp 4 0 5 a_next (by omega) (by omega) (fun x hx => by omega) (fun j _ => rfl)
end
section
variable {f_s f_t f_states f_whole f_counted f_stateAt : Int32} {a_target a_length a_shorter a_firstEnd a_next a_copied a_places a_gap a_cost a_letters : Nat → Int32} {post : Int32 → SX → Prop} {N s : Nat} {w : Nat → Nat} {L sh E : Nat → Nat} {nx T : Nat → Nat → Nat}
/-- the states along the ends that led to q lead to the twin t -/
def sp_rows (N s : Nat) (L : Nat → Nat) (nx T : Nat → Nat → Nat) (c q t lo hi : Nat) (a b : Nat → Int32) : Prop :=
  (∀ k, k < N → T s (L k) = k → lo ≤ L k → L k < hi → nx k c = q → b (k * 4 + c) = nI t) ∧ (∀ k d, d < 4 → ¬ (k < N ∧ d = c ∧ T s (L k) = k ∧ lo ≤ L k ∧ L k < hi ∧ nx k c = q) → b (k * 4 + d) = a (k * 4 + d))
theorem xg_sp100 (I : sa_Inv w s (fun k => k < N) L sh E nx T) (hs : s ≤ 32) (hN : N < 64) {p q c t : Nat} (hp : p < N) (hT : T s (L p) = p) (hc : c < 4) (hq : nx p c = q) (q0 : q ≠ 0) (ht : t = N + 1) {a : Nat → Int32}
    (ha : ∀ k, k < N → T s (L k) = k → L k ≤ L p → a (k * 4 + c) = en_x (nx k c)) (hS0 : a_shorter 0 = -1) (hS : ∀ k, k < N → k ≠ 0 → k ≠ q → a_shorter k = nI (sh k)) (hLq : L p + 1 < L q)
    (hpost : ∀ b, sp_rows N s L nx T c q t 0 (L p + 1) a b → post (nI t) (f_s, f_t, f_states, f_whole, f_counted, f_stateAt, a_target, a_length, a_shorter, a_firstEnd, b, a_copied, a_places, a_gap, a_cost, a_letters)) :
    ∀ d k i n b, L k ≤ d → d + 1 < n → k < N → T s (L k) = k → L k ≤ L p → i + L k ≤ s → sp_rows N s L nx T c q t (L k + 1) (L p + 1) a b → wX_split_100 post (nI q) (nI c) (nI t) f_s f_t f_states f_whole f_counted f_stateAt n (nI k) (nI i) a_target a_length a_shorter a_firstEnd b a_copied a_places a_gap a_cost a_letters := by
  intro d
  induction d using Nat.strongRecOn with
  | ind d ih =>
    intro k i n b hd hn hk hTk hkp hi h
    obtain ⟨n, rfl⟩ : ∃ q, n = q + 1 := ⟨n - 1, by omega⟩
    have qn : q < N := by rw [← hq]; exact (qu_len I hp hc (by rw [hq]; exact q0)).1
    have e : (nI k * 4 + nI c).toNatClampNeg = k * 4 + c := pk_cl (k * 4 + c) (ix_e k c)
    have bk : b (k * 4 + c) = en_x (nx k c) := by
      rw [h.2 k c hc (fun z => by have := z.2.2.2.1; omega)]
      exact ha k hk hTk hkp
    refine pk_le 65 i (fun z => by omega) (fun _ => br_f (nI_pos (by omega)) ⟨pk_in (k * 4 + c) 260 (by omega) (ix_e k c), ?_⟩)
    rw [e, bk]
    by_cases y : nx k c = q
    · rw [y, en_n q0]
      refine br_t rfl ⟨pk_in (k * 4 + c) 260 (by omega) (ix_e k c), nm_e ⟨pk_in k 65 (by omega), ?_⟩⟩
      rw [nI_clamp (show k < 2 ^ 31 by omega)]
      have sq : k ≠ q := fun z => by rw [z] at hkp; omega
      by_cases k0 : k = 0
      · -- the last end has been met
        subst k0
        have L0 := I.1.2.1
        refine nm_r hS0 (nm_r (nI_1 i) ?_)
        have fin : sp_rows N s L nx T c q t 0 (L p + 1) a (upd b (0 * 4 + c) (nI t)) := by
          refine ⟨fun x hx h1 h2 h3 h4 => ?_, fun x d' hd' h1 => ?_⟩
          · by_cases z : x = 0
            · rw [z, pk_us]
            · rw [pk_un (by omega)]
              refine h.1 x hx h1 ?_ h3 h4
              rw [L0]
              refine Classical.byContradiction fun v => z ?_
              rw [show L x = 0 from by omega, sa_z I (Nat.le_refl _)] at h1
              exact h1.symm
          · have hne : ¬ (x = 0 ∧ d' = c) := by
              rintro ⟨z1, z2⟩
              subst z1 z2
              exact h1 ⟨hk, rfl, hTk, by omega, by omega, y⟩
            rw [pk_un (by omega)]
            exact h.2 x d' hd' (fun z => h1 ⟨z.1, z.2.1, z.2.2.1, by omega, z.2.2.2.2⟩)
        obtain ⟨n, rfl⟩ : ∃ q, n = q + 1 := ⟨n - 1, by omega⟩
        exact pk_le 65 (i + 1) (fun z => hpost _ fin) (fun _ => br_t (by decide) (hpost _ fin))
      · obtain ⟨b1, b2, b3, b4, b5, b6⟩ := I.2.2.1 k hk k0
        have ls := sa_LE I hk
        have lk := sa_link I (show L k ≤ s by omega) (Nat.le_refl s) (by rw [hTk]; exact k0)
        rw [hTk] at lk
        refine nm_r (hS k hk k0 sq) (nm_r (nI_1 i) ?_)
        refine ih (d - 1) (by omega) (sh k) (i + 1) n _ (by omega) (by omega) b1 lk (by omega) (by omega) ⟨fun x hx h1 h2 h3 h4 => ?_, fun x d' hd' h1 => ?_⟩
        · by_cases z : x = k
          · rw [z, pk_us]
          · rw [pk_un (by omega)]
            refine h.1 x hx h1 ?_ h3 h4
            refine Classical.byContradiction fun v => z ?_
            have := sa_in I (e := s) (n := L k) (m := L x) (by omega) (Nat.le_refl _) (fun _ => by rw [hTk]; omega) (by rw [hTk]; omega)
            rw [h1, hTk] at this
            exact this
        · have hne : ¬ (x = k ∧ d' = c) := by
            rintro ⟨z1, z2⟩
            subst z1 z2
            exact h1 ⟨hk, rfl, hTk, by omega, by omega, y⟩
          rw [pk_un (by omega)]
          exact h.2 x d' hd' (fun z => h1 ⟨z.1, z.2.1, z.2.2.1, by omega, z.2.2.2.2⟩)
    · have ne : ¬ en_x (nx k c) = nI q := by
        by_cases z : nx k c = 0
        · rw [en_0 z]
          intro v
          have := congrArg Int32.toInt v
          rw [nI_toInt (by omega), show (-1 : Int32).toInt = -1 from by decide] at this
          omega
        · have := (qu_len I hk hc z).1
          rw [en_n z, nI_eq (by omega) (by omega)]
          exact y
      refine br_f ne (hpost b ⟨fun x hx h1 h2 h3 h4 => ?_, fun x d' hd' h1 => ?_⟩)
      · by_cases z : L k + 1 ≤ L x
        · exact h.1 x hx h1 z h3 h4
        · exact absurd (gr_run I hp hT hc hq q0 hk hTk hx h1 (by omega) hkp h4) y
      · exact h.2 x d' hd' (fun z => h1 ⟨z.1, z.2.1, z.2.2.1, by omega, z.2.2.2.2⟩)
/-- the copy of q's row -/
theorem xg_sp17 {p q c t : Nat} (hq : q < 65) (ht : t < 65) (hqt : q ≠ t)
    (hpost : ∀ b, (∀ d, d < 4 → b (t * 4 + d) = a_next (q * 4 + d)) → (∀ j, j < t * 4 ∨ t * 4 + 4 ≤ j → b j = a_next j) →
      ∃ n, wX_split_100 post (nI q) (nI c) (nI t) f_s f_t f_states f_whole f_counted f_stateAt n (nI p) 0 a_target a_length (upd (upd a_shorter t (a_shorter q)) q (nI t)) (upd a_firstEnd t (a_firstEnd q)) b (upd a_copied t 1) a_places a_gap a_cost a_letters) :
    ∀ d x n b, x + d = 4 → d < n → (∀ y, y < x → b (t * 4 + y) = a_next (q * 4 + y)) → (∀ j, j < t * 4 ∨ t * 4 + 4 ≤ j → b j = a_next j) → wX_split_17 post (nI p) (nI q) (nI c) (nI t) f_s f_t f_states f_whole f_counted f_stateAt n (nI x) a_target a_length a_shorter a_firstEnd b a_copied a_places a_gap a_cost a_letters := by
  have eq : (nI q).toNatClampNeg = q := nI_clamp (by omega)
  have et : (nI t).toNatClampNeg = t := nI_clamp (by omega)
  intro d
  induction d with
  | zero =>
    intro x n b hx hn h1 h2
    obtain ⟨n, rfl⟩ : ∃ q, n = q + 1 := ⟨n - 1, by omega⟩
    have e : x = 4 := by omega
    subst e
    refine pk_le 4 4 (fun _ => ⟨pk_in t 65 ht, nm_r (e' := upd a_copied t 1) (by rw [et]; rfl) ⟨pk_in q 65 hq, pk_in t 65 ht, nm_r (e' := upd a_firstEnd t (a_firstEnd q)) (by rw [et, eq]) ⟨pk_in q 65 hq, pk_in t 65 ht, nm_r (e' := upd a_shorter t (a_shorter q)) (by rw [et, eq]) ⟨pk_in q 65 hq, nm_r (e' := upd (upd a_shorter t (a_shorter q)) q (nI t)) (by rw [eq]) (hpost b h1 h2)⟩⟩⟩⟩) (fun z => by omega)
  | succ d ih =>
    intro x n b hx hn h1 h2
    obtain ⟨n, rfl⟩ : ∃ q, n = q + 1 := ⟨n - 1, by omega⟩
    have e1 : (nI q * 4 + nI x).toNatClampNeg = q * 4 + x := pk_cl (q * 4 + x) (ix_e q x)
    have e2 : (nI t * 4 + nI x).toNatClampNeg = t * 4 + x := pk_cl (t * 4 + x) (ix_e t x)
    refine pk_le 4 x (fun z => by omega) (fun _ => ⟨pk_in (q * 4 + x) 260 (by omega) (ix_e q x), pk_in (t * 4 + x) 260 (by omega) (ix_e t x), nm_r (e' := upd b (t * 4 + x) (b (q * 4 + x))) (by rw [e1, e2]) (nm_r (nI_1 x) ?_)⟩)
    refine ih (x + 1) n _ (by omega) (by omega) (fun y hy => ?_) (fun j hj => ?_)
    · by_cases z : y = x
      · rw [z, pk_us]
        exact h2 _ (by omega)
      · rw [pk_un (by omega)]
        exact h1 y (by omega)
    · rw [pk_un (by omega)]
      exact h2 j hj
end
end
section
/-! the end of a growth with a split; the loop along the ends; a growth as a whole -/
section
variable {w : Nat → Nat} {s N : Nat} {L sh E : Nat → Nat} {nx T : Nat → Nat → Nat} {aL aSh aE aN aC aP : Nat → Int32}
theorem gr_split (I : sa_Inv w s (fun k => k < N) L sh E nx T) {w' : Nat → Nat} {c p q l t : Nat} {b : Nat → Int32}
    (hw : ∀ j, j < s → w' j = w j) (hws : w' s = c) (hw4 : ∀ j, w' j < 4) (hc : c < 4) (hp : p < N) (hT : T s (L p) = p) (hl : l = L p + 1) (hq : nx p c = q) (q0 : q ≠ 0) (hLq : L q ≠ l) (ht : t = N + 1)
    (hn : ∀ k, k < N → T s (L k) = k → l ≤ L k → nx k c = 0) (hN : N ≤ 2 * s + 1)
    (bL : ∀ k, k < N → aL k = nI (L k)) (bLm : aL N = nI (s + 1)) (b0 : aSh 0 = -1) (bS : ∀ k, k < N → k ≠ 0 → aSh k = nI (sh k))
    (bE : ∀ k, k < N → k ≠ 0 → aE k = nI (E k - 1)) (bEm : aE N = nI s) (bN : gr_rows s (fun k => k < N) L nx T c l N aN)
    (bC : ∀ k, k < N → k ≠ 0 → (aC k = 0 ↔ T (L k) (L k) = k)) (bCm : aC N = 0)
    (r1 : ∀ d, d < 4 → b (t * 4 + d) = aN (q * 4 + d)) (r2 : ∀ k, k < N → T s (L k) = k → L k < l → nx k c = q → b (k * 4 + c) = nI t)
    (r3 : ∀ k d, k ≤ N → d < 4 → ¬ (k < N ∧ d = c ∧ T s (L k) = k ∧ L k < l ∧ nx k c = q) → b (k * 4 + d) = aN (k * 4 + d)) :
    sx_A (s + 1) w' (nI (N + 2)) (nI N) 0 (upd aL t (nI l)) (upd (upd (upd aSh t (aSh q)) q (nI t)) N (nI t)) (upd aE t (aE q)) b (upd (upd aC t 0) t 1) aP := by
  obtain ⟨e1, u1, u2, u3, u4, u5, u6⟩ := gr_p I hp hT hc (by rw [hq]; exact q0)
  have hF := gr_F I hw hws hn
  have qn : q < N := by rw [← hq]; exact (qu_len I hp hc (by rw [hq]; exact q0)).1
  rw [hq, ← hl] at u5
  obtain ⟨a1, a2, a3, a4, a5, a6⟩ := I.2.1 (e1 + 1) l (by omega) (by omega)
  rw [← u5] at a2 a3 a4 a5 a6
  have h1 := a5 q0
  have h2 : l < L q := by omega
  have ls := sa_LE I hp
  have ht0 : ¬ t < N := by omega
  have nt : ∀ k, k < N → k ≠ t := fun k hk => by omega
  have lt : ∀ {k : Nat} {α : Type} {x y : α}, k < N → (if k = t then x else y) = y := fun hk => if_neg (by omega)
  -- the parted automaton
  have J := sa_split I (q := q) (l := l) (t := t) (p := p) (c := c) (P2 := fun k => k < N ∨ k = t) (L2 := fun k => if k = t then l else L k) (sh2 := fun k => if k = t then sh q else if k = q then t else sh k)
    (E2 := fun k => if k = t then E q else E k) (nx2 := fun k d => if k = t then nx q d else if nx k d = q ∧ L k < l then t else nx k d) (T2 := fun e n => if T e n = q ∧ n ≤ l then t else T e n)
    qn h1 h2 ht0 hp hl.symm hc hq (fun k => Iff.rfl) (if_pos rfl) (fun k hk => lt hk) (if_pos rfl) (fun k hk => lt hk) (if_pos rfl)
    (by show (if q = t then sh q else if q = q then t else sh q) = t; rw [lt qn, if_pos rfl])
    (fun k hk hkq => by show (if k = t then sh q else if k = q then t else sh k) = sh k; rw [lt hk, if_neg hkq])
    (fun d _ => if_pos rfl)
    (fun k d hk _ z1 z2 => by show (if k = t then nx q d else if nx k d = q ∧ L k < l then t else nx k d) = t; rw [lt hk, if_pos ⟨z1, z2⟩])
    (fun k d hk _ z => by show (if k = t then nx q d else if nx k d = q ∧ L k < l then t else nx k d) = nx k d; rw [lt hk, if_neg z])
    (fun e n z1 z2 => if_pos ⟨z1, z2⟩) (fun e n z => if_neg z)
  have tN : t ≠ N := by omega
  have tq : t ≠ q := by omega
  have t0 : t ≠ 0 := by omega
  have N0 : N ≠ 0 := by omega
  have T2s : ∀ k, k < N → l ≤ L k → ((if T s (L k) = q ∧ L k ≤ l then t else T s (L k)) = k ↔ T s (L k) = k) := by
    intro k hk hkl
    by_cases z : T s (L k) = q ∧ L k ≤ l
    · rw [if_pos z]
      constructor
      · intro v; omega
      · intro v
        rw [z.1] at v
        rw [← v] at z
        omega
    · rw [if_neg z]
  have T2t : (if T s l = q ∧ l ≤ l then t else T s l) = t ↔ (T s (L q) = q) := by
    have lls := I.2.1 s l (by omega) (Nat.le_refl _)
    by_cases z : T s l = q
    · rw [if_pos ⟨z, Nat.le_refl _⟩]
      refine ⟨fun _ => ?_, fun _ => rfl⟩
      have := sa_top I (show l ≤ s by omega) (Nat.le_refl s)
      rw [z] at this
      exact this
    · rw [if_neg (fun v => z v.1)]
      refine ⟨fun v => ?_, fun v => ?_⟩
      · have := lls.1
        omega
      · have lq := sa_LE I qn
        have := sa_in I (e := s) (n := L q) (m := l) (by omega) (Nat.le_refl _) (fun _ => by rw [v]; exact h1) (by rw [v]; omega)
        rw [v] at this
        exact absurd this z
  refine gr_fin J (e0 := e1 + 1) (l := l) (q := t) (m := N) hw hws hw4 (by omega) (by omega) (if_pos ⟨u5.symm, Nat.le_refl _⟩) (if_pos rfl) ?_ hF (fun z => by have z' : N < N ∨ N = t := z; omega) (fun k => show k < N + 2 ↔ (k < N ∨ k = t) ∨ k = N by omega) (by omega)
    ?_ ?_ ?_ ?_ ?_ ?_ ?_ ⟨?_, ?_, ?_⟩ ?_ ?_
  · rw [hl]
    exact gr_w hw hws u1 u2 u3 u6
  · rintro k (hk | hk)
    · show upd aL t (nI l) k = nI (if k = t then l else L k)
      rw [lt hk, pk_un (nt k hk), bL k hk]
    · show upd aL t (nI l) k = nI (if k = t then l else L k)
      rw [if_pos hk, hk, pk_us]
  · rw [pk_un (by omega)]
    exact bLm
  · rw [pk_un (by omega), pk_un (by omega), pk_un (by omega)]
    exact b0
  · rintro k (hk | hk) k0
    · show _ = nI (if k = t then sh q else if k = q then t else sh k)
      rw [lt hk, pk_un (by omega)]
      by_cases kq : k = q
      · rw [if_pos kq, kq, pk_us]
      · rw [if_neg kq, pk_un kq, pk_un (nt k hk), bS k hk k0]
    · show _ = nI (if k = t then sh q else if k = q then t else sh k)
      rw [if_pos hk, hk, pk_un tN, pk_un tq, pk_us, bS q qn q0]
  · exact pk_us
  · rintro k (hk | hk) k0
    · show _ = nI ((if k = t then E q else E k) - 1)
      rw [lt hk, pk_un (nt k hk), bE k hk k0]
    · show _ = nI ((if k = t then E q else E k) - 1)
      rw [if_pos hk, hk, pk_us, bE q qn q0]
  · rw [pk_un (by omega)]
    exact bEm
  · -- the long ends
    rintro k (hk | hk) z1 z2
    · have z1' : l ≤ (if k = t then l else L k) := z1
      have z2' : (if T s (if k = t then l else L k) = q ∧ (if k = t then l else L k) ≤ l then t else T s (if k = t then l else L k)) = k := z2
      rw [lt hk] at z1' z2'
      have z3 := (T2s k hk z1').mp z2'
      rw [r3 k c (by omega) hc (fun v => by have := v.2.2.2.1; omega)]
      exact bN.1 k hk z1' z3
    · have z2' : (if T s (if k = t then l else L k) = q ∧ (if k = t then l else L k) ≤ l then t else T s (if k = t then l else L k)) = k := z2
      rw [if_pos hk, hk] at z2'
      rw [hk, r1 c hc]
      exact bN.1 q qn (by omega) (T2t.mp z2')
  · rintro k d (hk | hk) hd z
    · have z' : ¬ (d = c ∧ l ≤ (if k = t then l else L k) ∧ (if T s (if k = t then l else L k) = q ∧ (if k = t then l else L k) ≤ l then t else T s (if k = t then l else L k)) = k) := z
      show _ = en_x (if k = t then nx q d else if nx k d = q ∧ L k < l then t else nx k d)
      rw [lt hk] at z'
      rw [lt hk]
      by_cases y : nx k d = q ∧ L k < l
      · rw [if_pos y, en_n t0]
        obtain ⟨e, v1, v2, v3, v4⟩ := I.2.2.2.2.2 k d hk hd (by rw [y.1]; exact q0)
        have v5 := I.2.2.2.2.1 e (L k) v3 v1
        rw [v4, v2, y.1] at v5
        have v6 := sa_same I (e := e + 1) (n := L k + 1) (f := e1 + 1) (m := l) (by omega) (by omega) (by omega) (by omega) (v5.symm.trans u5)
        rw [← v5] at v6
        have v7 := sa_eq_1 (sa_eq_m (m := L k + 1) (by have := y.2; omega) v6)
        have dc : d = c := by rw [← v2, v7.1, u2]
        have v8 : T e1 (L k) = T e (L k) := (I.2.2.2.1 e e1 (L k) v3 (by have := y.2; omega) (by omega) (by omega) v7.2).symm
        have v9 : T e1 (L k) = T s (L k) := I.2.2.2.1 e1 s (L k) (by have := y.2; omega) (by have := y.2; omega) (by omega) (Nat.le_refl _) (sa_eq_m (by have := y.2; omega) u6)
        have y1 := y.1
        rw [dc] at y1 ⊢
        exact r2 k hk (by rw [← v9, v8, v4]) y.2 y1
      · rw [if_neg y, r3 k d (by omega) hd (fun v => y ⟨by rw [v.2.1]; exact v.2.2.2.2, v.2.2.2.1⟩)]
        refine bN.2.1 k d hk hd (fun v => z' ⟨v.1, v.2.1, (T2s k hk v.2.1).mpr v.2.2⟩)
    · have z' : ¬ (d = c ∧ l ≤ (if k = t then l else L k) ∧ (if T s (if k = t then l else L k) = q ∧ (if k = t then l else L k) ≤ l then t else T s (if k = t then l else L k)) = k) := z
      show _ = en_x (if k = t then nx q d else if nx k d = q ∧ L k < l then t else nx k d)
      rw [if_pos hk, hk] at z'
      rw [if_pos hk, hk, r1 d hd]
      exact bN.2.1 q d qn hd (fun v => z' ⟨v.1, Nat.le_refl _, T2t.mpr v.2.2⟩)
  · intro d hd
    rw [r3 N d (Nat.le_refl _) hd (fun v => by have := v.1; omega)]
    exact bN.2.2 d hd
  · rintro k (hk | hk) k0
    · show _ ↔ (if T (if k = t then l else L k) (if k = t then l else L k) = q ∧ (if k = t then l else L k) ≤ l then t else T (if k = t then l else L k) (if k = t then l else L k)) = k
      rw [lt hk, pk_un (nt k hk), pk_un (nt k hk)]
      have lk := sa_LE I hk
      rw [if_neg (fun v => by have := (I.2.1 (L k) (L k) (Nat.le_refl _) (by omega)).2.2.1; rw [v.1] at this; have := v.2; omega)]
      exact bC k hk k0
    · show _ ↔ (if T (if k = t then l else L k) (if k = t then l else L k) = q ∧ (if k = t then l else L k) ≤ l then t else T (if k = t then l else L k) (if k = t then l else L k)) = k
      rw [if_pos hk, hk, pk_us]
      have ll := I.2.1 l l (Nat.le_refl _) (by omega)
      rw [if_neg (fun v => by have := ll.2.2.1; rw [v.1] at this; omega)]
      exact ⟨fun v => absurd v (by decide), fun v => by have := ll.1; omega⟩
  · rw [pk_un (by omega), pk_un (by omega)]
    exact bCm
end
end
section
/-! a growth as a whole -/
def sx_R (s t : Nat) (w tg : Nat → Nat) (u : SX) : Prop := match u with
  | (f_s, f_t, f_states, f_whole, f_counted, f_stateAt, a_target, a_length, a_shorter, a_firstEnd, a_next, a_copied, a_places, a_gap, a_cost, a_letters) => f_s = nI s ∧ f_t = nI t ∧ a_target = (fun j => nI (tg j)) ∧ a_letters = (fun j => nI (w j)) ∧ sx_A s w f_states f_whole f_counted a_length a_shorter a_firstEnd a_next a_copied a_places
theorem sx_el {s t : Nat} {w tg : Nat → Nat} {Q : SX → Prop} (h : ∀ f_states f_whole f_counted f_stateAt a_length a_shorter a_firstEnd a_next a_copied a_places a_gap a_cost, sx_A s w f_states f_whole f_counted a_length a_shorter a_firstEnd a_next a_copied a_places → Q (nI s, nI t, f_states, f_whole, f_counted, f_stateAt, fun j => nI (tg j), a_length, a_shorter, a_firstEnd, a_next, a_copied, a_places, a_gap, a_cost, fun j => nI (w j))) : ∀ u, sx_R s t w tg u → Q u := by
  rintro ⟨f_s, f_t, f_states, f_whole, f_counted, f_stateAt, a_target, a_length, a_shorter, a_firstEnd, a_next, a_copied, a_places, a_gap, a_cost, a_letters⟩ ⟨rfl, rfl, rfl, rfl, hA⟩
  exact h f_states f_whole f_counted f_stateAt a_length a_shorter a_firstEnd a_next a_copied a_places a_gap a_cost hA
section
variable {f_s f_t f_states f_whole f_counted f_stateAt : Int32} {a_target a_length a_shorter a_firstEnd a_next a_copied a_places a_gap a_cost a_letters : Nat → Int32} {N s t0 : Nat} {w w' tg : Nat → Nat} {L sh E : Nat → Nat} {nx T : Nat → Nat → Nat} {c l : Nat}
theorem xg_split {post : Int32 → SX → Prop} (I : sa_Inv w s (fun k => k < N) L sh E nx T) (hs : s < 32) (hN : N ≤ 2 * s + 1) {p q : Nat} (hp : p < N) (hT : T s (L p) = p) (hc : c < 4) (hq : nx p c = q) (q0 : q ≠ 0) (hLq : L p + 1 < L q)
    (bL : a_length p = nI (L p)) (b0 : a_shorter 0 = -1) (bS : ∀ k, k < N → k ≠ 0 → a_shorter k = nI (sh k)) (bN : gr_rows s (fun k => k < N) L nx T c (L p + 1) N a_next)
    (hpost : ∀ b, (∀ d, d < 4 → b ((N + 1) * 4 + d) = a_next (q * 4 + d)) → (∀ k, k < N → T s (L k) = k → L k < L p + 1 → nx k c = q → b (k * 4 + c) = nI (N + 1)) →
      (∀ k d, k ≤ N → d < 4 → ¬ (k < N ∧ d = c ∧ T s (L k) = k ∧ L k < L p + 1 ∧ nx k c = q) → b (k * 4 + d) = a_next (k * 4 + d)) →
      post (nI (N + 1)) (f_s, f_t, nI (N + 2), f_whole, 0, f_stateAt, a_target, upd a_length (N + 1) (nI (L p + 1)), upd (upd a_shorter (N + 1) (a_shorter q)) q (nI (N + 1)), upd a_firstEnd (N + 1) (a_firstEnd q), b, upd (upd a_copied (N + 1) 0) (N + 1) 1, a_places, a_gap, a_cost, a_letters)) :
    wpX_split post (f_s, f_t, nI (N + 1), f_whole, f_counted, f_stateAt, a_target, a_length, a_shorter, a_firstEnd, a_next, a_copied, a_places, a_gap, a_cost, a_letters) (nI p) (nI q) (nI c) := by
  have qn : q < N := by rw [← hq]; exact (qu_len I hp hc (by rw [hq]; exact q0)).1
  refine ⟨pk_in p 65 (by omega), ?_⟩
  rw [nI_clamp (show p < 2 ^ 31 by omega), bL, nI_1]
  refine xg_new (N := N + 1) (by omega) (fun a h1 h2 => ⟨5, ?_⟩)
  refine xg_sp17 (f_states := nI (N + 1 + 1)) (f_counted := 0) (a_length := upd a_length (N + 1) (nI (L p + 1))) (a_copied := upd a_copied (N + 1) 0) (a_next := a) (t := N + 1) (by omega) (by omega) (by omega) (fun b h3 h4 => ⟨L p + 2, ?_⟩) 4 0 5 a (by omega) (by omega) (fun y hy => by omega) (fun j _ => rfl)
  have sv : ∀ k, k < N → k ≠ q → upd (upd a_shorter (N + 1) (a_shorter q)) q (nI (N + 1)) k = a_shorter k := fun k hk hkq => by rw [pk_un hkq, pk_un (by omega)]
  refine xg_sp100 (f_states := nI (N + 1 + 1)) (f_counted := 0) (a_length := upd a_length (N + 1) (nI (L p + 1))) (a_copied := upd (upd a_copied (N + 1) 0) (N + 1) 1) (a_firstEnd := upd a_firstEnd (N + 1) (a_firstEnd q))
    (a_shorter := upd (upd a_shorter (N + 1) (a_shorter q)) q (nI (N + 1))) I (by omega) (by omega) hp hT hc hq q0 rfl (a := b) (fun k hk hTk hkp => ?_) ?_ (fun k hk k0 kq => ?_) hLq (fun b' hb => ?_) (L p) p 0 (L p + 2) b (Nat.le_refl _) (by omega) hp hT (Nat.le_refl _) ?_ ⟨fun k hk _ h5 h6 => by omega, fun k d _ _ => rfl⟩
  · rw [h4 _ (by omega), h2 _ (by omega)]
    exact bN.2.1 k c hk hc (fun z => by have := z.2.1; omega)
  · rw [sv 0 (by omega) (fun z => q0 z.symm)]
    exact b0
  · rw [sv k hk kq]
    exact bS k hk k0
  · refine hpost b' (fun d hd => ?_) (fun k hk h5 h6 h7 => hb.1 k hk h5 (Nat.zero_le _) h6 h7) (fun k d hk hd h5 => ?_)
    · rw [hb.2 (N + 1) d hd (fun z => by have := z.1; omega), h3 d hd, h2 _ (by omega)]
    · rw [hb.2 k d hd (fun z => h5 ⟨z.1, z.2.1, z.2.2.1, z.2.2.2.2.1, z.2.2.2.2.2⟩), h4 _ (by omega), h2 _ (by omega)]
  · have := sa_LE I hp
    omega
theorem xg_102 {post : SX → Prop} (I : sa_Inv w s (fun k => k < N) L sh E nx T) (hs : s < 32) (hN : N ≤ 2 * s + 1) (hw : ∀ j, j < s → w' j = w j) (hws : w' s = c) (hw4 : ∀ j, w' j < 4) (hc : c < 4)
    {x : Int32} (hx : gr_end s N L nx T c l x) (hn : ∀ k, k < N → T s (L k) = k → l ≤ L k → nx k c = 0)
    (bL : ∀ k, k < N → a_length k = nI (L k)) (bLm : a_length N = nI (s + 1)) (b0 : a_shorter 0 = -1) (bS : ∀ k, k < N → k ≠ 0 → a_shorter k = nI (sh k))
    (bE : ∀ k, k < N → k ≠ 0 → a_firstEnd k = nI (E k - 1)) (bEm : a_firstEnd N = nI s) (bN : gr_rows s (fun k => k < N) L nx T c l N a_next)
    (bC : ∀ k, k < N → k ≠ 0 → (a_copied k = 0 ↔ T (L k) (L k) = k)) (bCm : a_copied N = 0)
    (hpost : ∀ u, sx_R (s + 1) t0 w' tg u → post u) :
    wX_grow_102 post (nI c) (nI N) x (nI (s + 1)) (nI t0) (nI (N + 1)) f_whole 0 f_stateAt (fun j => nI (tg j)) a_length a_shorter a_firstEnd a_next a_copied a_places a_gap a_cost (fun j => nI (w' j)) := by
  have hF := gr_F I hw hws hn
  have eN : (nI N).toNatClampNeg = N := nI_clamp (by omega)
  have N0 : 0 < N := I.1.1
  rcases hx with ⟨rfl, hl⟩ | ⟨p, rfl, hp, hT, hl, hx⟩
  · subst hl
    refine br_f (by decide) ⟨pk_in N 65 (by omega), nm_r (e' := upd a_shorter N 0) (by rw [eN]) (hpost _ ⟨rfl, rfl, rfl, rfl, ?_⟩)⟩
    refine gr_fin I (e0 := 0) (l := 0) (q := 0) (m := N) hw hws hw4 (Nat.le_refl _) (Nat.zero_le _) (sa_z I (Nat.zero_le _)) I.1.2.1 (fun i hi => by omega) hF (Nat.lt_irrefl N) (fun k => show k < N + 1 ↔ k < N ∨ k = N by omega) (by omega) bL bLm ?_ ?_ ?_ bE bEm bN bC bCm
    · rw [pk_un (by omega)]; exact b0
    · intro k hk k0
      have hk' : k < N := hk
      rw [pk_un (by omega)]
      exact bS k hk k0
    · rw [pk_us]; rfl
  · have qn := qu_len I hp hc hx
    have e : (nI p * 4 + nI c).toNatClampNeg = p * 4 + c := pk_cl (p * 4 + c) (ix_e p c)
    have r : a_next (p * 4 + c) = nI (nx p c) := by
      rw [bN.2.1 p c hp hc (fun z => by have := z.2.1; omega), en_n hx]
    refine br_t (nI_pos' (by omega)) ⟨pk_in (p * 4 + c) 260 (by omega) (ix_e p c), nm_r (e' := nI (nx p c)) (by rw [e, r]) ⟨pk_in (nx p c) 65 (by omega), pk_in p 65 (by omega), ?_⟩⟩
    rw [nI_clamp (show nx p c < 2 ^ 31 by omega), nI_clamp (show p < 2 ^ 31 by omega), bL _ qn.1, bL p hp, nI_1]
    have l1 := sa_LE I hp
    have l2 := sa_LE I qn.1
    refine pk_eq (L (nx p c)) (L p + 1) (fun y => ?_) (fun y => ?_)
    · refine ⟨pk_in N 65 (by omega), nm_r (e' := upd a_shorter N (nI (nx p c))) (by rw [eN]) (hpost _ ⟨rfl, rfl, rfl, rfl, ?_⟩)⟩
      obtain ⟨e1, u1, u2, u3, u4, u5, u6⟩ := gr_p I hp hT hc hx
      refine gr_fin I (e0 := e1 + 1) (l := l) (q := nx p c) (m := N) hw hws hw4 (by omega) (by omega) (by rw [hl]; exact u5.symm) (by omega) (by rw [hl]; exact gr_w hw hws u1 u2 u3 u6) hF (Nat.lt_irrefl N) (fun k => show k < N + 1 ↔ k < N ∨ k = N by omega) (by omega) bL bLm ?_ ?_ pk_us bE bEm bN bC bCm
      · rw [pk_un (by omega)]; exact b0
      · intro k hk k0
        have hk' : k < N := hk
        rw [pk_un (by omega)]
        exact bS k hk k0
    · rw [hl] at bN
      refine xg_split I hs hN hp hT hc rfl hx (by omega) (bL p hp) b0 bS bN (fun b r1 r2 r3 => ?_)
      refine ⟨pk_in N 65 (by omega), nm_r (e' := upd (upd (upd a_shorter (N + 1) (a_shorter (nx p c))) (nx p c) (nI (N + 1))) N (nI (N + 1))) (by rw [eN]) (hpost _ ⟨rfl, rfl, rfl, rfl, ?_⟩)⟩
      exact gr_split I hw hws hw4 hc hp hT rfl rfl hx y rfl (by rw [← hl]; exact hn) hN bL bLm b0 bS bE bEm bN bC bCm r1 r2 r3
theorem xg_54 {post : SX → Prop} (I : sa_Inv w s (fun k => k < N) L sh E nx T) (hs : s < 32) (hN : N ≤ 2 * s + 1) (hc : c < 4) (b0 : a_shorter 0 = -1) (bS : ∀ k, k < N → k ≠ 0 → a_shorter k = nI (sh k))
    (hex : ∀ l x b, gr_end s N L nx T c l x → (∀ k, k < N → T s (L k) = k → l ≤ L k → nx k c = 0) → gr_rows s (fun k => k < N) L nx T c l N b → wX_grow_102 post (nI c) (nI N) x f_s f_t f_states f_whole f_counted f_stateAt a_target a_length a_shorter a_firstEnd b a_copied a_places a_gap a_cost a_letters) :
    ∀ d p i n b, L p ≤ d → d + 1 < n → p < N → T s (L p) = p → i + L p ≤ s → (∀ k, k < N → T s (L k) = k → L p + 1 ≤ L k → nx k c = 0) → gr_rows s (fun k => k < N) L nx T c (L p + 1) N b →
      wX_grow_54 post (nI c) (nI N) f_s f_t f_states f_whole f_counted f_stateAt n (nI p) (nI i) a_target a_length a_shorter a_firstEnd b a_copied a_places a_gap a_cost a_letters := by
  intro d
  induction d using Nat.strongRecOn with
  | ind d ih =>
    intro p i n b hd hn hp hT hi hz h
    obtain ⟨n, rfl⟩ : ∃ q, n = q + 1 := ⟨n - 1, by omega⟩
    have e : (nI p * 4 + nI c).toNatClampNeg = p * 4 + c := pk_cl (p * 4 + c) (ix_e p c)
    have bk : b (p * 4 + c) = en_x (nx p c) := h.2.1 p c hp hc (fun z => by have := z.2.1; omega)
    refine pk_le 65 i (fun z => by omega) (fun _ => br_f (nI_pos (by omega)) ⟨pk_in (p * 4 + c) 260 (by omega) (ix_e p c), ?_⟩)
    rw [e, bk]
    by_cases y : nx p c = 0
    · rw [en_0 y]
      refine br_f (by decide) ⟨pk_in (p * 4 + c) 260 (by omega) (ix_e p c), nm_e ⟨pk_in p 65 (by omega), ?_⟩⟩
      rw [nI_clamp (show p < 2 ^ 31 by omega)]
      by_cases p0 : p = 0
      · subst p0
        have L0 := I.1.2.1
        refine nm_r b0 (nm_r (nI_1 i) ?_)
        have x0 : ∀ k, k < N → T s (L k) = k → k ≠ 0 → L 0 + 1 ≤ L k := by
          intro k hk h1 k0
          rw [L0]
          refine Classical.byContradiction fun v => k0 ?_
          rw [show L k = 0 from by omega, sa_z I (Nat.le_refl _)] at h1
          exact h1.symm
        have fin : wX_grow_102 post (nI c) (nI N) (-1) f_s f_t f_states f_whole f_counted f_stateAt a_target a_length a_shorter a_firstEnd (upd b (0 * 4 + c) (nI N)) a_copied a_places a_gap a_cost a_letters := by
          refine hex 0 (-1) _ (Or.inl ⟨rfl, rfl⟩) (fun k hk h1 _ => ?_) ⟨fun k hk h1 h2 => ?_, fun k d' hk hd' h1 => ?_, fun d' hd' => ?_⟩
          · by_cases k0 : k = 0
            · rw [k0]; exact y
            · exact hz k hk h1 (x0 k hk h1 k0)
          · have hk' : k < N := hk
            by_cases k0 : k = 0
            · rw [k0, pk_us]
            · rw [pk_un (by omega)]
              exact h.1 k hk (x0 k hk h2 k0) h2
          · have hne : ¬ (k = 0 ∧ d' = c) := by
              rintro ⟨z1, z2⟩
              subst z1 z2
              exact h1 ⟨rfl, Nat.zero_le _, hT⟩
            rw [pk_un (by omega)]
            exact h.2.1 k d' hk hd' (fun z => h1 ⟨z.1, Nat.zero_le _, z.2.2⟩)
          · rw [pk_un (by omega)]
            exact h.2.2 d' hd'
        obtain ⟨n, rfl⟩ : ∃ q, n = q + 1 := ⟨n - 1, by omega⟩
        exact pk_le 65 (i + 1) (fun z => fin) (fun _ => br_t (by decide) fin)
      · obtain ⟨b1, b2, b3, b4, b5, b6⟩ := I.2.2.1 p hp p0
        have b1' : sh p < N := b1
        have ls := sa_LE I hp
        have lk := sa_link I (show L p ≤ s by omega) (Nat.le_refl s) (by rw [hT]; exact p0)
        rw [hT] at lk
        have mid : ∀ k, k < N → T s (L k) = k → L (sh p) + 1 ≤ L k → k ≠ p → L p + 1 ≤ L k := by
          intro k hk h1 h2 kp
          refine Classical.byContradiction fun v => kp ?_
          have := sa_in I (e := s) (n := L p) (m := L k) (by omega) (Nat.le_refl _) (fun _ => by rw [hT]; omega) (by rw [hT]; omega)
          rw [h1, hT] at this
          exact this
        refine nm_r (bS p hp p0) (nm_r (nI_1 i) ?_)
        refine ih (d - 1) (by omega) (sh p) (i + 1) n _ (by omega) (by omega) b1 lk (by omega) (fun k hk h1 h2 => ?_) ⟨fun k hk h1 h2 => ?_, fun k d' hk hd' h1 => ?_, fun d' hd' => ?_⟩
        · by_cases kp : k = p
          · rw [kp]; exact y
          · exact hz k hk h1 (mid k hk h1 h2 kp)
        · have hk' : k < N := hk
          by_cases kp : k = p
          · rw [kp, pk_us]
          · rw [pk_un (by omega)]
            exact h.1 k hk (mid k hk h2 h1 kp) h2
        · have hne : ¬ (k = p ∧ d' = c) := by
            rintro ⟨z1, z2⟩
            subst z1 z2
            exact h1 ⟨rfl, by omega, hT⟩
          rw [pk_un (by omega)]
          exact h.2.1 k d' hk hd' (fun z => h1 ⟨z.1, by have := z.2.1; omega, z.2.2⟩)
        · rw [pk_un (by omega)]
          exact h.2.2 d' hd'
    · have qn := qu_len I hp hc y
      exact br_t ((en_le (by omega)).mpr y) (hex (L p + 1) (nI p) b (Or.inr ⟨p, rfl, hp, hT, rfl, y⟩) hz h)
end
/-- a growth by one letter -/
theorem xg_grow {post : SX → Prop} {s t c : Nat} {w tg : Nat → Nat} {u : SX} (R : sx_R s t w tg u) (hs : s < 32) (hw : ∀ j, w j < 4) (hc : c < 4) (hpost : ∀ u', sx_R (s + 1) t (fun j => if j = s then c else w j) tg u' → post u') : wpX_grow post u (nI c) := by
  revert R
  refine sx_el (Q := fun u => wpX_grow post u (nI c)) ?_ u
  intro f_states f_whole f_counted f_stateAt a_length a_shorter a_firstEnd a_next a_copied a_places a_gap a_cost hA
  obtain ⟨N, L, sh, E, nx, T, rfl, rfl, hN, I, ⟨bL, b0, bS, bE, bN, bC⟩, _⟩ := hA
  have ts := I.2.1 s s (Nat.le_refl _) (Nat.le_refl _)
  have tn : T s s < N := ts.1
  have tl : L (T s s) = s := by omega
  have N0 : 0 < N := I.1.1
  refine ⟨pk_in (T s s) 65 (by omega), ?_⟩
  rw [nI_clamp (show T s s < 2 ^ 31 by omega), bL _ tn, tl, nI_1]
  refine xg_new (by omega) (fun a h1 h2 => ?_)
  have eN : (nI N).toNatClampNeg = N := nI_clamp (by omega)
  have es : (nI s).toNatClampNeg = s := nI_clamp (by omega)
  have ew : upd (fun j => nI (w j)) s (nI c) = fun j => nI (if j = s then c else w j) := by
    funext j
    by_cases z : j = s
    · rw [z, pk_us, if_pos rfl]
    · rw [pk_un z, if_neg z]
  refine ⟨pk_in N 65 (by omega), nm_r (e' := upd a_firstEnd N (nI s)) (by rw [eN]) ⟨pk_in s 32 hs, nm_r (e' := fun j => nI (if j = s then c else w j)) (by rw [es, ew]) (nm_r (nI_1 s) ⟨s + 2, ?_⟩)⟩⟩
  refine xg_54 (f_s := nI (s + 1)) (f_states := nI (N + 1)) (f_counted := 0) (a_length := upd a_length N (nI (s + 1))) (a_copied := upd a_copied N 0) (a_firstEnd := upd a_firstEnd N (nI s)) (a_letters := fun j => nI (if j = s then c else w j)) I hs hN hc b0 bS (fun l x b hx hn hr => ?_) s (T s s) 0 (s + 2) a (by omega) (by omega) tn (by rw [tl]) (by omega) (fun k hk _ h3 => ?_) ⟨fun k hk h3 _ => ?_, fun k d hk hd _ => ?_, h1⟩
  · refine xg_102 (w' := fun j => if j = s then c else w j) I hs hN (fun j hj => if_neg (by omega)) (if_pos rfl) (fun j => ?_) hc hx hn (fun k hk => ?_) pk_us b0 bS (fun k hk k0 => ?_) pk_us hr (fun k hk k0 => ?_) pk_us hpost
    · show (if j = s then c else w j) < 4
      by_cases z : j = s
      · rw [if_pos z]; exact hc
      · rw [if_neg z]; exact hw j
    · rw [pk_un (by omega)]; exact bL k hk
    · rw [pk_un (by omega)]; exact bE k hk k0
    · rw [pk_un (by omega)]; exact bC k hk k0
  · have := sa_LE I hk
    omega
  · have := sa_LE I hk
    omega
  · have hk' : k < N := hk
    rw [h2 _ (by omega)]
    exact bN k d hk hd
end
section
/-! the component's walks that read the target -/
theorem xq_reset {post : SX → Prop} {f_s f_t f_states f_whole f_counted f_stateAt : Int32} {a_target a_length a_shorter a_firstEnd a_next a_copied a_places a_gap a_cost a_letters : Nat → Int32} {t : Nat} {w tg : Nat → Nat} (hw : ∀ j, w j < 4) (h1 : f_t = nI t) (h2 : a_target = fun j => nI (tg j)) (h3 : a_letters = fun j => nI (w j)) (hp : ∀ u, sx_R 0 t w tg u → post u) : wpX_reset post (f_s, f_t, f_states, f_whole, f_counted, f_stateAt, a_target, a_length, a_shorter, a_firstEnd, a_next, a_copied, a_places, a_gap, a_cost, a_letters) := by
  subst h1 h2 h3
  refine xg_new (N := 0) (f_s := 0) (by omega) (fun a k1 k2 => ?_)
  refine nm_e (hp _ ⟨rfl, rfl, rfl, rfl, 1, fun _ => 0, fun _ => 0, fun _ => 0, fun _ _ => 0, fun _ _ => 0, rfl, rfl, by omega, sa_start hw rfl rfl (fun _ _ => rfl), ⟨fun k hk => ?_, pk_us, fun k hk k0 => ?_, fun k hk k0 => ?_, fun k d hk hd => ?_, fun k hk k0 => ?_⟩, Or.inl rfl⟩)
  · have : k < 1 := hk
    rw [show k = 0 from by omega, pk_us]
    rfl
  · have : k < 1 := hk
    omega
  · have : k < 1 := hk
    omega
  · have : k < 1 := hk
    rw [show k = 0 from by omega, k1 d hd]
    rfl
  · have : k < 1 := hk
    omega
section
variable {s t : Nat} {w tg : Nat → Nat}
section
variable {f_s f_t f_states f_whole f_counted f_stateAt : Int32} {a_target a_length a_shorter a_firstEnd a_next a_copied a_places a_gap a_cost a_letters : Nat → Int32}
theorem xq_l9 {post : Int32 → SX → Prop} (D : sx_D s t w tg) {N : Nat} {L sh E : Nat → Nat} {nx T : Nat → Nat → Nat} (I : sa_Inv w s (fun k => k < N) L sh E nx T) (hN : N ≤ 65) (bN : ∀ k d, k < N → d < 4 → a_next (k * 4 + d) = en_x (nx k d)) {i : Nat} (hi : i ≤ t)
    (hp : ∀ k, k + wd_lf w tg s t i ≤ s → wd_st w tg k i (wd_lf w tg s t i) → post (nI (wd_lf w tg s t i)) (nI s, nI t, f_states, f_whole, f_counted, nI (T (k + wd_lf w tg s t i) (wd_lf w tg s t i)), fun j => nI (tg j), a_length, a_shorter, a_firstEnd, a_next, a_copied, a_places, a_gap, a_cost, fun j => nI (w j))) :
    ∀ d m n k, m + d = t - i → d < n → k + m ≤ s → wd_st w tg k i m → wX_longestFrom_9 post (nI s) (nI t) f_states f_whole f_counted (fun j => nI (tg j)) a_length a_shorter a_firstEnd a_next a_copied a_places a_gap a_cost (fun j => nI (w j)) n (nI m) (nI (i + m)) (nI (T (k + m) m)) := by
  obtain ⟨hs, ht, hw, htg⟩ := D
  have fin : ∀ m k, m ≤ t - i → k + m ≤ s → wd_st w tg k i m → (m = t - i ∨ ¬ wd_F w tg s i (m + 1)) → post (nI m) (nI s, nI t, f_states, f_whole, f_counted, nI (T (k + m) m), fun j => nI (tg j), a_length, a_shorter, a_firstEnd, a_next, a_copied, a_places, a_gap, a_cost, fun j => nI (w j)) := by
    intro m k hm hk h hx
    have e := wd_lf_eq hm ⟨k, hk, h⟩ hx
    rw [e] at hp
    exact hp k hk h
  intro d
  induction d with
  | zero =>
    intro m n k hm hn hk h
    obtain ⟨n, rfl⟩ : ∃ q, n = q + 1 := ⟨n - 1, by omega⟩
    exact pk_le t (i + m) (fun _ => fin m k (by omega) hk h (Or.inl (by omega))) (fun z => by omega)
  | succ d ih =>
    intro m n k hm hn hk h
    obtain ⟨n, rfl⟩ : ∃ q, n = q + 1 := ⟨n - 1, by omega⟩
    have tn : T (k + m) m < N := (I.2.1 (k + m) m (by omega) hk).1
    have l4 := htg (i + m)
    have e0 : (nI (i + m)).toNatClampNeg = i + m := nI_clamp (by omega)
    refine pk_le t (i + m) (fun z => by omega) (fun _ => ?_)
    rw [e0]
    have e : nI (T (k + m) m) * 4 + nI (tg (i + m)) = nI (T (k + m) m * 4 + tg (i + m)) := ix_e _ _
    have e2 : (nI (T (k + m) m) * 4 + nI (tg (i + m))).toNatClampNeg = T (k + m) m * 4 + tg (i + m) := pk_cl _ e
    refine ⟨pk_in (i + m) 24 (by omega), pk_in (T (k + m) m * 4 + tg (i + m)) 260 (by omega) e, ?_⟩
    rw [e2, bN _ _ tn l4]
    by_cases y : nx (T (k + m) m) (tg (i + m)) = 0
    · rw [en_0 y]
      exact br_t (by decide) (fin m k (by omega) hk h (Or.inr (qu_rd0 I hk h y)))
    · have qn := qu_len I tn l4 y
      rw [en_n y]
      refine br_f (nI_pos (by omega)) ⟨pk_in (i + m) 24 (by omega), pk_in (T (k + m) m * 4 + tg (i + m)) 260 (by omega) e, ?_⟩
      obtain ⟨j, j1, j2, j3⟩ := qu_rd1 I hk h l4 y
      rw [j3]
      exact nm_e (nm_r (nI_1 m) (nm_r (nI_1 (i + m)) (ih (m + 1) n j (by omega) (by omega) j1 j2)))
end
/-- the longest stretch from place i, and its first place -/
theorem xq_longF {post : Int32 → SX → Prop} (D : sx_D s t w tg) {u : SX} (R : sx_R s t w tg u) {i : Nat} (hi : i ≤ t)
    (hp : ∀ f_states f_whole f_counted f_stateAt a_length a_shorter a_firstEnd a_next a_copied a_places a_gap a_cost, sx_A s w f_states f_whole f_counted a_length a_shorter a_firstEnd a_next a_copied a_places →
      (wd_lf w tg s t i ≠ 0 → ∃ q k, f_stateAt = nI q ∧ q < 65 ∧ a_firstEnd q = nI (k + wd_lf w tg s t i - 1) ∧ k + wd_lf w tg s t i ≤ s ∧ wd_st w tg k i (wd_lf w tg s t i) ∧ ∀ j, j < k → ¬ wd_st w tg j i (wd_lf w tg s t i)) → post (nI (wd_lf w tg s t i)) (nI s, nI t, f_states, f_whole, f_counted, f_stateAt, fun j => nI (tg j), a_length, a_shorter, a_firstEnd, a_next, a_copied, a_places, a_gap, a_cost, fun j => nI (w j))) : wpX_longestFrom post u (nI i) := by
  revert R
  refine sx_el (Q := fun u => wpX_longestFrom post u (nI i)) ?_ u
  intro f_states f_whole f_counted f_stateAt a_length a_shorter a_firstEnd a_next a_copied a_places a_gap a_cost hA
  have hA' := hA
  obtain ⟨N, L, sh, E, nx, T, rfl, rfl, hN, I, ⟨bL, b0, bS, bE, bN, bC⟩, bP⟩ := hA'
  have hs := D.1
  have N0 : 0 < N := I.1.1
  refine ⟨t - i + 1, ?_⟩
  have z0 : T (0 + 0) 0 = 0 := sa_z I (Nat.zero_le _)
  have key := xq_l9 (post := post) D I (by omega) bN hi (f_states := nI N) (f_whole := nI (T s s)) (f_counted := f_counted) (a_length := a_length) (a_shorter := a_shorter) (a_firstEnd := a_firstEnd) (a_copied := a_copied) (a_places := a_places) (a_gap := a_gap) (a_cost := a_cost) (fun k hk hst => ?_) (t - i) 0 (t - i + 1) 0 (by omega) (by omega) (Nat.zero_le _) (wd_st0 w tg 0 i)
  · rw [z0] at key
    exact key
  · refine hp _ _ _ _ _ _ _ _ _ _ _ _ hA (fun l0 => ?_)
    obtain ⟨a1, a2, a3, a4, a5, a6⟩ := I.2.1 (k + wd_lf w tg s t i) (wd_lf w tg s t i) (by omega) hk
    have a1' : T (k + wd_lf w tg s t i) (wd_lf w tg s t i) < N := a1
    have b := sa_LE I a1
    have q0 := sa_nz I (show wd_lf w tg s t i ≤ k + wd_lf w tg s t i by omega) hk l0
    have e : E (T (k + wd_lf w tg s t i) (wd_lf w tg s t i)) = E (T (k + wd_lf w tg s t i) (wd_lf w tg s t i)) - wd_lf w tg s t i + wd_lf w tg s t i := by omega
    refine ⟨T (k + wd_lf w tg s t i) (wd_lf w tg s t i), E (T (k + wd_lf w tg s t i) (wd_lf w tg s t i)) - wd_lf w tg s t i, rfl, by omega, ?_, by omega, ?_, fun j hj hst2 => ?_⟩
    · rw [bE _ a1 q0, ← e]
    · have a7 := sa_eq_m a2 a6
      rw [e] at a7
      exact wd_qe a7 hst
    · have x := I.2.2.2.1 (j + wd_lf w tg s t i) (k + wd_lf w tg s t i) (wd_lf w tg s t i) (by omega) (by omega) (by omega) hk (wd_eq hst2 hst)
      have y := (I.2.1 (j + wd_lf w tg s t i) (wd_lf w tg s t i) (by omega) (by omega)).2.2.2.1
      rw [x] at y
      omega
theorem xq_long {post : Int32 → SX → Prop} (D : sx_D s t w tg) {u : SX} (R : sx_R s t w tg u) {i : Nat} (hi : i ≤ t) (hp : ∀ u', sx_R s t w tg u' → post (nI (wd_lf w tg s t i)) u') : wpX_longestFrom post u (nI i) :=
  xq_longF D R hi (fun f_states f_whole f_counted f_stateAt a_length a_shorter a_firstEnd a_next a_copied a_places a_gap a_cost hA _ => hp _ ⟨rfl, rfl, rfl, rfl, hA⟩)
theorem xq_bg {post : Int32 → SX → Prop} (D : sx_D s t w tg) {p : Nat} (hp31 : p < 2 ^ 31) (hp : ∀ u', sx_R s t w tg u' → post (nI (wd_bg w tg s t p)) u') :
    ∀ d q n f_s f_t f_states f_whole f_counted f_stateAt a_target a_length a_shorter a_firstEnd a_next a_copied a_places a_gap a_cost a_letters, sx_R s t w tg (f_s, f_t, f_states, f_whole, f_counted, f_stateAt, a_target, a_length, a_shorter, a_firstEnd, a_next, a_copied, a_places, a_gap, a_cost, a_letters) → q ≤ p → t - wd_bg w tg s t q ≤ d → d < n → wX_pieceBegin_4 post (nI p) n (nI (wd_bg w tg s t q)) (nI q) f_s f_t f_states f_whole f_counted f_stateAt a_target a_length a_shorter a_firstEnd a_next a_copied a_places a_gap a_cost a_letters := by
  have ht := D.2.1
  intro d
  induction d with
  | zero =>
    intro q n f_s f_t f_states f_whole f_counted f_stateAt a_target a_length a_shorter a_firstEnd a_next a_copied a_places a_gap a_cost a_letters R hq hd hn
    obtain ⟨n, rfl⟩ : ∃ q, n = q + 1 := ⟨n - 1, by omega⟩
    have hp' := hp _ R
    obtain ⟨rfl, rfl, rfl, rfl, hA⟩ := R
    have b := wd_bg_le w tg s t q
    rw [wd_bg_st (w := w) (tg := tg) (s := s) (t := t) (p := q) (by omega) p hq] at hp'
    exact pk_le p q (fun _ => hp') (fun _ => pk_le t (wd_bg w tg s t q) (fun _ => hp') (fun z => by omega))
  | succ d ih =>
    intro q n f_s f_t f_states f_whole f_counted f_stateAt a_target a_length a_shorter a_firstEnd a_next a_copied a_places a_gap a_cost a_letters R hq hd hn
    obtain ⟨n, rfl⟩ : ∃ q, n = q + 1 := ⟨n - 1, by omega⟩
    have hp' := hp _ R
    have R' := R
    obtain ⟨rfl, rfl, rfl, rfl, hA⟩ := R'
    have b := wd_bg_le w tg s t q
    refine pk_le p q (fun z => ?_) (fun z => pk_le t (wd_bg w tg s t q) (fun y => ?_) (fun y => ?_))
    · rw [show p = q from by omega] at hp'
      exact hp'
    · rw [wd_bg_st y p hq] at hp'
      exact hp'
    · have s1 := wd_sg_1 w tg s t (wd_bg w tg s t q)
      have l := wd_lf_le w tg s t (wd_bg w tg s t q)
      refine xq_long D R b ?_
      rintro ⟨f_s, f_t, f_states, f_whole, f_counted, f_stateAt, a_target, a_length, a_shorter, a_firstEnd, a_next, a_copied, a_places, a_gap, a_cost, a_letters⟩ R2
      have nx := ih (q + 1) n f_s f_t f_states f_whole f_counted f_stateAt a_target a_length a_shorter a_firstEnd a_next a_copied a_places a_gap a_cost a_letters R2 (by omega) (by rw [wd_bg_t y]; omega) (by omega)
      rw [wd_bg_t y] at nx
      refine br_c (fun x => ?_) (fun x => ?_)
      · rw [yi_z (by omega)] at x
        have e : wd_sg w tg s t (wd_bg w tg s t q) = 1 := by unfold wd_sg; rw [if_pos x]
        rw [e] at nx
        exact nm_r (nI_1 _) (nm_r (nI_1 q) nx)
      · rw [yi_z (by omega)] at x
        have e : wd_sg w tg s t (wd_bg w tg s t q) = wd_lf w tg s t (wd_bg w tg s t q) := by unfold wd_sg; rw [if_neg x]
        rw [e] at nx
        exact nm_r (nI_add _ _) (nm_r (nI_1 q) nx)
theorem xq_begin {post : Int32 → SX → Prop} (D : sx_D s t w tg) {u : SX} (R : sx_R s t w tg u) {p : Nat} (hp31 : p < 2 ^ 31) (hp : ∀ u', sx_R s t w tg u' → post (nI (wd_bg w tg s t p)) u') : wpX_pieceBegin post u (nI p) := by
  obtain ⟨f_s, f_t, f_states, f_whole, f_counted, f_stateAt, a_target, a_length, a_shorter, a_firstEnd, a_next, a_copied, a_places, a_gap, a_cost, a_letters⟩ := u
  exact ⟨t + 1, xq_bg D hp31 hp t 0 (t + 1) f_s f_t f_states f_whole f_counted f_stateAt a_target a_length a_shorter a_firstEnd a_next a_copied a_places a_gap a_cost a_letters R (by omega) (by omega) (by omega)⟩
theorem xq_pieces {post : Int32 → SX → Prop} (D : sx_D s t w tg) {u : SX} (R : sx_R s t w tg u) {r : Nat} (hr : r ≤ 24) (h1 : wd_bg w tg s t r = t) (h2 : ∀ p, p < r → wd_bg w tg s t p < t) (hp : ∀ u', sx_R s t w tg u' → post (nI r) u') : wpX_pieces post u := by
  have ht := D.2.1
  have key : ∀ d q n f_s f_t f_states f_whole f_counted f_stateAt a_target a_length a_shorter a_firstEnd a_next a_copied a_places a_gap a_cost a_letters, sx_R s t w tg (f_s, f_t, f_states, f_whole, f_counted, f_stateAt, a_target, a_length, a_shorter, a_firstEnd, a_next, a_copied, a_places, a_gap, a_cost, a_letters) → q + d = r → d < n → wX_pieces_6 post n (nI q) (nI (wd_bg w tg s t q)) (nI q) f_s f_t f_states f_whole f_counted f_stateAt a_target a_length a_shorter a_firstEnd a_next a_copied a_places a_gap a_cost a_letters := by
    intro d
    induction d with
    | zero =>
      intro q n f_s f_t f_states f_whole f_counted f_stateAt a_target a_length a_shorter a_firstEnd a_next a_copied a_places a_gap a_cost a_letters R hq hn
      obtain ⟨n, rfl⟩ : ∃ q, n = q + 1 := ⟨n - 1, by omega⟩
      have hp' := hp _ R
      obtain ⟨rfl, rfl, rfl, rfl, hA⟩ := R
      have e : q = r := by omega
      subst e
      exact pk_le 24 q (fun _ => hp') (fun _ => pk_le t (wd_bg w tg s t q) (fun _ => hp') (fun z => by omega))
    | succ d ih =>
      intro q n f_s f_t f_states f_whole f_counted f_stateAt a_target a_length a_shorter a_firstEnd a_next a_copied a_places a_gap a_cost a_letters R hq hn
      obtain ⟨n, rfl⟩ : ∃ q, n = q + 1 := ⟨n - 1, by omega⟩
      have R' := R
      obtain ⟨rfl, rfl, rfl, rfl, hA⟩ := R'
      have y := h2 q (by omega)
      have s1 := wd_sg_1 w tg s t (wd_bg w tg s t q)
      have l := wd_lf_le w tg s t (wd_bg w tg s t q)
      refine pk_le 24 q (fun z => by omega) (fun _ => pk_le t (wd_bg w tg s t q) (fun z => by omega) (fun _ => ?_))
      refine xq_long D R (by omega) ?_
      rintro ⟨f_s, f_t, f_states, f_whole, f_counted, f_stateAt, a_target, a_length, a_shorter, a_firstEnd, a_next, a_copied, a_places, a_gap, a_cost, a_letters⟩ R2
      have nx := ih (q + 1) n f_s f_t f_states f_whole f_counted f_stateAt a_target a_length a_shorter a_firstEnd a_next a_copied a_places a_gap a_cost a_letters R2 (by omega) (by omega)
      rw [wd_bg_t y] at nx
      refine br_c (fun x => ?_) (fun x => ?_)
      · rw [yi_z (by omega)] at x
        have e : wd_sg w tg s t (wd_bg w tg s t q) = 1 := by unfold wd_sg; rw [if_pos x]
        rw [e] at nx
        exact nm_r (nI_1 _) (nm_r (nI_1 q) (nm_r (nI_1 q) nx))
      · rw [yi_z (by omega)] at x
        have e : wd_sg w tg s t (wd_bg w tg s t q) = wd_lf w tg s t (wd_bg w tg s t q) := by unfold wd_sg; rw [if_neg x]
        rw [e] at nx
        exact nm_r (nI_add _ _) (nm_r (nI_1 q) (nm_r (nI_1 q) nx))
  obtain ⟨f_s, f_t, f_states, f_whole, f_counted, f_stateAt, a_target, a_length, a_shorter, a_firstEnd, a_next, a_copied, a_places, a_gap, a_cost, a_letters⟩ := u
  exact ⟨r + 1, key r 0 (r + 1) f_s f_t f_states f_whole f_counted f_stateAt a_target a_length a_shorter a_firstEnd a_next a_copied a_places a_gap a_cost a_letters R (by omega) (by omega)⟩
theorem xq_longest {post : Int32 → SX → Prop} (D : sx_D s t w tg) {u : SX} (R : sx_R s t w tg u) (hp : ∀ u', sx_R s t w tg u' → post (nI (wd_mx w tg s t t)) u') : wpX_longest post u := by
  have ht := D.2.1
  have key : ∀ d i n f_s f_t f_states f_whole f_counted f_stateAt a_target a_length a_shorter a_firstEnd a_next a_copied a_places a_gap a_cost a_letters, sx_R s t w tg (f_s, f_t, f_states, f_whole, f_counted, f_stateAt, a_target, a_length, a_shorter, a_firstEnd, a_next, a_copied, a_places, a_gap, a_cost, a_letters) → i + d = t → d < n → wX_longest_4 post n (nI (wd_mx w tg s t i)) (nI i) f_s f_t f_states f_whole f_counted f_stateAt a_target a_length a_shorter a_firstEnd a_next a_copied a_places a_gap a_cost a_letters := by
    intro d
    induction d with
    | zero =>
      intro i n f_s f_t f_states f_whole f_counted f_stateAt a_target a_length a_shorter a_firstEnd a_next a_copied a_places a_gap a_cost a_letters R hi hn
      obtain ⟨n, rfl⟩ : ∃ q, n = q + 1 := ⟨n - 1, by omega⟩
      have hp' := hp _ R
      obtain ⟨rfl, rfl, rfl, rfl, hA⟩ := R
      have e : i = t := by omega
      rw [e]
      exact pk_le t t (fun _ => hp') (fun z => by omega)
    | succ d ih =>
      intro i n f_s f_t f_states f_whole f_counted f_stateAt a_target a_length a_shorter a_firstEnd a_next a_copied a_places a_gap a_cost a_letters R hi hn
      obtain ⟨n, rfl⟩ : ∃ q, n = q + 1 := ⟨n - 1, by omega⟩
      have R' := R
      obtain ⟨rfl, rfl, rfl, rfl, hA⟩ := R'
      have a := wd_mx_le w tg s t i
      have b := wd_lf_le w tg s t i
      refine pk_le t i (fun z => by omega) (fun _ => xq_long D R (by omega) ?_)
      rintro ⟨f_s, f_t, f_states, f_whole, f_counted, f_stateAt, a_target, a_length, a_shorter, a_firstEnd, a_next, a_copied, a_places, a_gap, a_cost, a_letters⟩ R2
      have nx := ih (i + 1) n f_s f_t f_states f_whole f_counted f_stateAt a_target a_length a_shorter a_firstEnd a_next a_copied a_places a_gap a_cost a_letters R2 (by omega) (by omega)
      rw [wd_mx] at nx
      refine pk_le (wd_lf w tg s t i) (wd_mx w tg s t i) (fun y => ?_) (fun y => ?_)
      · rw [if_pos y] at nx
        exact nm_r (nI_1 i) nx
      · rw [if_neg (by omega)] at nx
        exact nm_r (nI_1 i) nx
  obtain ⟨f_s, f_t, f_states, f_whole, f_counted, f_stateAt, a_target, a_length, a_shorter, a_firstEnd, a_next, a_copied, a_places, a_gap, a_cost, a_letters⟩ := u
  exact ⟨t + 1, key t 0 (t + 1) f_s f_t f_states f_whole f_counted f_stateAt a_target a_length a_shorter a_firstEnd a_next a_copied a_places a_gap a_cost a_letters R (by omega) (by omega)⟩
theorem xq_longAt {post : Int32 → SX → Prop} (D : sx_D s t w tg) {b r : Nat} (hb : b ≤ t) (hr : wd_at w tg s t b r) (hp : ∀ u', sx_R s t w tg u' → post (nI r) u') :
    ∀ d i n f_s f_t f_states f_whole f_counted f_stateAt a_target a_length a_shorter a_firstEnd a_next a_copied a_places a_gap a_cost a_letters, sx_R s t w tg (f_s, f_t, f_states, f_whole, f_counted, f_stateAt, a_target, a_length, a_shorter, a_firstEnd, a_next, a_copied, a_places, a_gap, a_cost, a_letters) → i + d = t → d < n → (∀ j, j < i → wd_lf w tg s t j ≠ b) → wX_longestAt_7 post (nI b) n (nI i) f_s f_t f_states f_whole f_counted f_stateAt a_target a_length a_shorter a_firstEnd a_next a_copied a_places a_gap a_cost a_letters := by
  have ht := D.2.1
  intro d
  induction d with
  | zero =>
    intro i n f_s f_t f_states f_whole f_counted f_stateAt a_target a_length a_shorter a_firstEnd a_next a_copied a_places a_gap a_cost a_letters R hi hn h
    obtain ⟨n, rfl⟩ : ∃ q, n = q + 1 := ⟨n - 1, by omega⟩
    have hp' := hp _ R
    obtain ⟨rfl, rfl, rfl, rfl, hA⟩ := R
    refine pk_le t i (fun _ => ?_) (fun z => by omega)
    rcases hr with z | z
    · exact absurd z.2.1 (h r (by omega))
    · rw [z.1] at hp'
      exact hp'
  | succ d ih =>
    intro i n f_s f_t f_states f_whole f_counted f_stateAt a_target a_length a_shorter a_firstEnd a_next a_copied a_places a_gap a_cost a_letters R hi hn h
    obtain ⟨n, rfl⟩ : ∃ q, n = q + 1 := ⟨n - 1, by omega⟩
    have R' := R
    obtain ⟨rfl, rfl, rfl, rfl, hA⟩ := R'
    have l := wd_lf_le w tg s t i
    refine pk_le t i (fun z => by omega) (fun _ => xq_long D R (by omega) ?_)
    rintro ⟨f_s, f_t, f_states, f_whole, f_counted, f_stateAt, a_target, a_length, a_shorter, a_firstEnd, a_next, a_copied, a_places, a_gap, a_cost, a_letters⟩ R2
    have hp' := hp _ R2
    refine pk_eq (wd_lf w tg s t i) b (fun y => ?_) (fun y => nm_r (nI_1 i) (ih (i + 1) n f_s f_t f_states f_whole f_counted f_stateAt a_target a_length a_shorter a_firstEnd a_next a_copied a_places a_gap a_cost a_letters R2 (by omega) (by omega) (fun j hj => ?_)))
    · rcases hr with x | x
      · have e : r = i := by
          have a : ¬ i < r := fun v => x.2.2 i v y
          have c : ¬ r < i := fun v => h r v x.2.1
          omega
        rw [e] at hp'
        exact hp'
      · exact absurd y (x.2 i (by omega))
    · by_cases e : j = i
      · rw [e]; exact y
      · exact h j (by omega)
end
end
section
/-! the component counts the places of its states -/
section
variable {f_s f_t f_states f_whole f_counted f_stateAt : Int32} {a_target a_length a_shorter a_firstEnd a_next a_copied a_places a_gap a_cost a_letters : Nat → Int32} {s t N : Nat} {w tg : Nat → Nat} {L sh E : Nat → Nat} {nx T : Nat → Nat → Nat} {post : SX → Prop}
def ct_Q (L : Nat → Nat) (z i x : Nat) : Prop := z + 1 < L x ∨ (L x = z + 1 ∧ x < i)
theorem xc_59 (I : sa_Inv w s (fun k => k < N) L sh E nx T) (hN : N ≤ 65) (hs : s ≤ 32) (bL : ∀ k, k < N → a_length k = nI (L k)) (bS : ∀ k, k < N → k ≠ 0 → a_shorter k = nI (sh k)) {z n53 : Nat}
    (J : ∀ a, (∀ k, k < N → k ≠ 0 → a k = nI (pl_v s L T (fun x => z < L x) k)) → wX_count_53 post (nI s) (nI t) (nI N) f_whole f_counted f_stateAt n53 (nI z) (fun j => nI (tg j)) a_length a_shorter a_firstEnd a_next a_copied a a_gap a_cost (fun j => nI (w j))) (hz : z < 2 ^ 30) :
    ∀ d i n a, 1 ≤ i → i + d = N → d < n → (∀ k, k < N → k ≠ 0 → a k = nI (pl_v s L T (ct_Q L z i) k)) → wX_count_59 post (wX_count_53 post (nI s) (nI t) (nI N) f_whole f_counted f_stateAt n53) (nI (z + 1)) (nI s) (nI t) (nI N) f_whole f_counted f_stateAt n (nI i) (fun j => nI (tg j)) a_length a_shorter a_firstEnd a_next a_copied a a_gap a_cost (fun j => nI (w j)) := by
  intro d
  induction d with
  | zero =>
    intro i n a i1 hi hn h
    obtain ⟨n, rfl⟩ : ∃ q, n = q + 1 := ⟨n - 1, by omega⟩
    have e : i = N := by omega
    subst e
    refine pk_le i i (fun _ => nm_r (pk_m1 z) (J a (fun k hk k0 => ?_))) (fun y => by omega)
    rw [h k hk k0]
    refine congrArg nI (pl_congr I (fun x hx x0 hl => ?_))
    show (z + 1 < L x ∨ (L x = z + 1 ∧ x < i)) ↔ z < L x
    have hx' : x < i := hx
    omega
  | succ d ih =>
    intro i n a i1 hi hn h
    obtain ⟨n, rfl⟩ : ∃ q, n = q + 1 := ⟨n - 1, by omega⟩
    have iN : i < N := by omega
    have ei : (nI i).toNatClampNeg = i := nI_clamp (by omega)
    refine pk_le N i (fun y => by omega) (fun _ => ⟨pk_in i 65 (by omega), ?_⟩)
    rw [ei, bL i iN]
    have li := sa_LE I iN
    refine pk_eq (L i) (z + 1) (fun y => ?_) (fun y => nm_r (nI_1 i) (ih (i + 1) n a (by omega) (by omega) (by omega) (fun k hk k0 => ?_)))
    · obtain ⟨b1, b2, b3, b4, b5, b6⟩ := I.2.2.1 i iN (by omega)
      have b1' : sh i < N := b1
      have es : (nI (sh i)).toNatClampNeg = sh i := nI_clamp (by omega)
      rw [bS i iN (by omega), es]
      refine ⟨pk_in i 65 (by omega), pk_in i 65 (by omega), pk_in (sh i) 65 (by omega), pk_in i 65 (by omega), pk_in (sh i) 65 (by omega), nm_e (nm_r (nI_1 i) ?_)⟩
      have hQ : ∀ x, x < N → (ct_Q L z (i + 1) x ↔ ct_Q L z i x ∨ x = i) := by
        intro x hx
        show (z + 1 < L x ∨ (L x = z + 1 ∧ x < i + 1)) ↔ (z + 1 < L x ∨ (L x = z + 1 ∧ x < i)) ∨ x = i
        constructor
        · intro v
          omega
        · rintro (v | v)
          · omega
          · subst v; omega
      have nQ : ¬ ct_Q L z i i := by
        intro v
        have v' : z + 1 < L i ∨ (L i = z + 1 ∧ i < i) := v
        omega
      refine ih (i + 1) n _ (by omega) (by omega) (by omega) (fun k hk k0 => ?_)
      by_cases ks : k = sh i
      · subst ks
        rw [pk_us, h _ hk k0, h i iN (by omega), nI_add, pl_add I iN (by omega) nQ hQ]
        rw [pl_full I (Q := ct_Q L z i) (k := i) (fun x hx x0 hl => Or.inl (by omega))]
      · rw [pk_un ks, h k hk k0, pl_keep I ks hQ]
    · rw [h k hk k0]
      refine congrArg nI (pl_congr I (fun x hx x0 hl => ?_))
      show (z + 1 < L x ∨ (L x = z + 1 ∧ x < i)) ↔ (z + 1 < L x ∨ (L x = z + 1 ∧ x < i + 1))
      constructor
      · intro v; omega
      · intro v
        by_cases e : x = i
        · subst e; omega
        · omega
theorem xc_53 (I : sa_Inv w s (fun k => k < N) L sh E nx T) (hN : N ≤ 65) (hs : s ≤ 32) (bL : ∀ k, k < N → a_length k = nI (L k)) (bS : ∀ k, k < N → k ≠ 0 → a_shorter k = nI (sh k))
    (hp : ∀ a, (∀ k, k < N → k ≠ 0 → a k = nI (qu_oc s L T k)) → post (nI s, nI t, nI N, f_whole, 1, f_stateAt, fun j => nI (tg j), a_length, a_shorter, a_firstEnd, a_next, a_copied, a, a_gap, a_cost, fun j => nI (w j))) :
    ∀ z n a, z ≤ s → z < n → (∀ k, k < N → k ≠ 0 → a k = nI (pl_v s L T (fun x => z < L x) k)) → wX_count_53 post (nI s) (nI t) (nI N) f_whole f_counted f_stateAt n (nI z) (fun j => nI (tg j)) a_length a_shorter a_firstEnd a_next a_copied a a_gap a_cost (fun j => nI (w j)) := by
  have N0 : 0 < N := I.1.1
  intro z
  induction z with
  | zero =>
    intro n a hz hn h
    obtain ⟨n, rfl⟩ : ∃ q, n = q + 1 := ⟨n - 1, by omega⟩
    refine pk_le 0 0 (fun _ => hp a (fun k hk k0 => ?_)) (fun y => by omega)
    rw [h k hk k0, pl_full I (fun x hx x0 hl => by show 0 < L x; omega)]
  | succ z ih =>
    intro n a hz hn h
    obtain ⟨n, rfl⟩ : ∃ q, n = q + 1 := ⟨n - 1, by omega⟩
    refine pk_le (z + 1) 0 (fun y => by omega) (fun _ => ⟨N + 1, ?_⟩)
    refine xc_59 I hN hs bL bS (fun a' h' => ih n a' (by omega) (by omega) h') (by omega) (N - 1) 1 (N + 1) a (by omega) (by omega) (by omega) (fun k hk k0 => ?_)
    rw [h k hk k0]
    refine congrArg nI (pl_congr I (fun x hx x0 hl => ?_))
    show z + 1 < L x ↔ (z + 1 < L x ∨ (L x = z + 1 ∧ x < 1))
    omega
theorem xc_10 (I : sa_Inv w s (fun k => k < N) L sh E nx T) (hN : N ≤ 65) (bC : ∀ k, k < N → k ≠ 0 → (a_copied k = 0 ↔ T (L k) (L k) = k))
    (hp : ∀ a, (∀ k, k < N → k ≠ 0 → a k = nI (cn_b (T (L k) (L k) = k))) → ∃ n, wX_count_53 post (nI s) (nI t) (nI N) f_whole f_counted f_stateAt n (nI s) (fun j => nI (tg j)) a_length a_shorter a_firstEnd a_next a_copied a a_gap a_cost (fun j => nI (w j))) :
    ∀ d i n a, i + d = N → d < n → (∀ k, k < i → k ≠ 0 → a k = nI (cn_b (T (L k) (L k) = k))) → wX_count_10 post (nI s) (nI t) (nI N) f_whole f_counted f_stateAt n (nI i) (fun j => nI (tg j)) a_length a_shorter a_firstEnd a_next a_copied a a_gap a_cost (fun j => nI (w j)) := by
  intro d
  induction d with
  | zero =>
    intro i n a hi hn h
    obtain ⟨n, rfl⟩ : ∃ q, n = q + 1 := ⟨n - 1, by omega⟩
    have e : i = N := by omega
    subst e
    exact pk_le i i (fun _ => hp a h) (fun y => by omega)
  | succ d ih =>
    intro i n a hi hn h
    obtain ⟨n, rfl⟩ : ∃ q, n = q + 1 := ⟨n - 1, by omega⟩
    have iN : i < N := by omega
    have ei : (nI i).toNatClampNeg = i := nI_clamp (by omega)
    have go : ∀ v : Int32, (i ≠ 0 → v = nI (cn_b (T (L i) (L i) = i))) → wX_count_10 post (nI s) (nI t) (nI N) f_whole f_counted f_stateAt n (nI (i + 1)) (fun j => nI (tg j)) a_length a_shorter a_firstEnd a_next a_copied (upd a i v) a_gap a_cost (fun j => nI (w j)) := by
      intro v hv
      refine ih (i + 1) n _ (by omega) (by omega) (fun k hk k0 => ?_)
      by_cases e : k = i
      · subst e
        rw [pk_us]
        exact hv k0
      · rw [pk_un e]
        exact h k (by omega) k0
    refine pk_le N i (fun y => by omega) (fun _ => ⟨pk_in i 65 (by omega), ?_⟩)
    rw [ei]
    refine br_c (fun y => pk_eq i 0 (fun x => ⟨pk_in i 65 (by omega), nm_e (nm_r (nI_1 i) (go 0 (fun x0 => absurd x x0)))⟩) (fun x => ⟨pk_in i 65 (by omega), nm_e (nm_r (nI_1 i) (go 1 (fun x0 => ?_)))⟩)) (fun y => ⟨pk_in i 65 (by omega), nm_e (nm_r (nI_1 i) (go 0 (fun x0 => ?_)))⟩)
    · rw [cn_b1 ((bC i iN x0).mp y)]; rfl
    · rw [cn_b0 (fun x => y ((bC i iN x0).mpr x))]; rfl
theorem xc_count (I : sa_Inv w s (fun k => k < N) L sh E nx T) (hN : N ≤ 65) (hs : s ≤ 32) (B : ar_B (fun k => k < N) L sh E nx T a_length a_shorter a_firstEnd a_next a_copied) (hc : f_counted = 0 ∨ ∀ k, k < N → k ≠ 0 → a_places k = nI (qu_oc s L T k))
    (hp : ∀ f a, (∀ k, k < N → k ≠ 0 → a k = nI (qu_oc s L T k)) → post (nI s, nI t, nI N, f_whole, f, f_stateAt, fun j => nI (tg j), a_length, a_shorter, a_firstEnd, a_next, a_copied, a, a_gap, a_cost, fun j => nI (w j))) : wpX_count post (nI s, nI t, nI N, f_whole, f_counted, f_stateAt, fun j => nI (tg j), a_length, a_shorter, a_firstEnd, a_next, a_copied, a_places, a_gap, a_cost, fun j => nI (w j)) := by
  obtain ⟨bL, b0, bS, bE, bN, bC⟩ := B
  refine br_c (fun y => ⟨N + 1, ?_⟩) (fun y => hp f_counted a_places (hc.resolve_left y))
  refine xc_10 I hN bC (fun a h => ⟨s + 1, ?_⟩) N 0 (N + 1) a_places (by omega) (by omega) (fun k hk => by omega)
  refine xc_53 I hN hs bL bS (fun a' h' => hp 1 a' h') s (s + 1) a (Nat.le_refl _) (by omega) (fun k hk k0 => ?_)
  rw [h k hk k0, pl_none I hk (fun x hx x0 v => ?_)]
  have := sa_LE I hx
  have v' : s < L x := v
  omega
end
section
variable {s t : Nat} {w tg : Nat → Nat}
theorem xc_words {post : Int32 → Prop} (D : sx_D s t w tg) {u : SX} (R : sx_R s t w tg u) (hp : post (nI (sm_m (fun n => if n = 0 then 0 else qu_wo w s n) (s + 1)))) : wpX_words post u := by
  revert R
  refine sx_el (Q := fun u => wpX_words post u) ?_ u
  intro f_states f_whole f_counted f_stateAt a_length a_shorter a_firstEnd a_next a_copied a_places a_gap a_cost hA
  obtain ⟨N, L, sh, E, nx, T, rfl, rfl, hN, I, ⟨bL, b0, bS, bE, bN, bC⟩, bP⟩ := hA
  have hs := D.1
  have N0 : 0 < N := I.1.1
  rw [← qu_all I] at hp
  have key : ∀ d k n, 1 ≤ k → k + d = N → d < n → wX_words_4 post (nI s) (nI t) (nI N) (nI (T s s)) f_counted f_stateAt (fun j => nI (tg j)) a_length a_shorter a_firstEnd a_next a_copied a_places a_gap a_cost (fun j => nI (w j)) n (nI (sm_m (fun k => if k = 0 then 0 else L k - L (sh k)) k)) (nI k) := by
    intro d
    induction d with
    | zero =>
      intro k n k1 hk hn
      obtain ⟨n, rfl⟩ : ∃ q, n = q + 1 := ⟨n - 1, by omega⟩
      have e : k = N := by omega
      subst e
      exact pk_le k k (fun _ => hp) (fun y => by omega)
    | succ d ih =>
      intro k n k1 hk hn
      obtain ⟨n, rfl⟩ : ∃ q, n = q + 1 := ⟨n - 1, by omega⟩
      have kN : k < N := by omega
      obtain ⟨b1, b2, b3, b4, b5, b6⟩ := I.2.2.1 k kN (by omega)
      have b1' : sh k < N := b1
      have ek : (nI k).toNatClampNeg = k := nI_clamp (by omega)
      have es : (nI (sh k)).toNatClampNeg = sh k := nI_clamp (by omega)
      have q := ih (k + 1) n (by omega) (by omega) (by omega)
      have e : sm_m (fun k => if k = 0 then 0 else L k - L (sh k)) (k + 1) = sm_m (fun k => if k = 0 then 0 else L k - L (sh k)) k + L k - L (sh k) := by
        show sm_m (fun k => if k = 0 then 0 else L k - L (sh k)) k + (if k = 0 then 0 else L k - L (sh k)) = _
        rw [if_neg (by omega)]
        omega
      rw [e] at q
      refine pk_le N k (fun y => by omega) (fun _ => ⟨pk_in k 65 (by omega), pk_in k 65 (by omega), ?_⟩)
      rw [ek, bS k kN (by omega), es, bL k kN, bL _ b1, nI_add, pk_sub (by omega)]
      exact ⟨pk_in (sh k) 65 (by omega), nm_e (nm_r (nI_1 k) q)⟩
  exact ⟨N + 1, key (N - 1) 1 (N + 1) (by omega) (by omega) (by omega)⟩
theorem xc_wordsOf {post : Int32 → Prop} (D : sx_D s t w tg) {u : SX} (R : sx_R s t w tg u) {m : Nat} (m31 : m < 2 ^ 31) (m1 : 1 ≤ m) (hp : post (nI (qu_wo w s m))) : wpX_wordsOf post u (nI m) := by
  revert R
  refine sx_el (Q := fun u => wpX_wordsOf post u (nI m)) ?_ u
  intro f_states f_whole f_counted f_stateAt a_length a_shorter a_firstEnd a_next a_copied a_places a_gap a_cost hA
  obtain ⟨N, L, sh, E, nx, T, rfl, rfl, hN, I, ⟨bL, b0, bS, bE, bN, bC⟩, bP⟩ := hA
  have hs := D.1
  have N0 : 0 < N := I.1.1
  rw [← qu_words I m1] at hp
  have key : ∀ d k n, 1 ≤ k → k + d = N → d < n → wX_wordsOf_4 post (nI m) (nI s) (nI t) (nI N) (nI (T s s)) f_counted f_stateAt (fun j => nI (tg j)) a_length a_shorter a_firstEnd a_next a_copied a_places a_gap a_cost (fun j => nI (w j)) n (nI (cn_n (fun k => k ≠ 0 ∧ L (sh k) < m ∧ m ≤ L k) k)) (nI k) := by
    intro d
    induction d with
    | zero =>
      intro k n k1 hk hn
      obtain ⟨n, rfl⟩ : ∃ q, n = q + 1 := ⟨n - 1, by omega⟩
      have e : k = N := by omega
      subst e
      exact pk_le k k (fun _ => hp) (fun y => by omega)
    | succ d ih =>
      intro k n k1 hk hn
      obtain ⟨n, rfl⟩ : ∃ q, n = q + 1 := ⟨n - 1, by omega⟩
      have kN : k < N := by omega
      obtain ⟨b1, b2, b3, b4, b5, b6⟩ := I.2.2.1 k kN (by omega)
      have b1' : sh k < N := b1
      have ek : (nI k).toNatClampNeg = k := nI_clamp (by omega)
      have es : (nI (sh k)).toNatClampNeg = sh k := nI_clamp (by omega)
      have q := ih (k + 1) n (by omega) (by omega) (by omega)
      refine pk_le N k (fun y => by omega) (fun _ => ⟨pk_in k 65 (by omega), ?_⟩)
      rw [ek, bS k kN (by omega), es, bL k kN, bL _ b1]
      refine ⟨pk_in (sh k) 65 (by omega), pk_le m (L (sh k)) (fun y => ?_) (fun y => ⟨pk_in k 65 (by omega), pk_lt (L k) m (fun x => ?_) (fun x => ?_)⟩)⟩
      · rw [cn_f (f := fun k => k ≠ 0 ∧ L (sh k) < m ∧ m ≤ L k) (fun v => by have := v.2.1; omega)] at q
        exact nm_r (nI_1 k) q
      · rw [cn_f (f := fun k => k ≠ 0 ∧ L (sh k) < m ∧ m ≤ L k) (fun v => by have := v.2.2; omega)] at q
        exact nm_r (nI_1 k) q
      · rw [cn_t (f := fun k => k ≠ 0 ∧ L (sh k) < m ∧ m ≤ L k) ⟨by omega, y, x⟩] at q
        exact nm_r (nI_1 _) (nm_r (nI_1 k) q)
  have z := key (N - 1) 1 (N + 1) (by omega) (by omega) (by omega)
  rw [cn_f (f := fun k => k ≠ 0 ∧ L (sh k) < m ∧ m ≤ L k) (fun v => v.1 rfl)] at z
  exact ⟨N + 1, z⟩
theorem xc_wordsN {post : Int32 → Prop} (D : sx_D s t w tg) {u : SX} (R : sx_R s t w tg u) {x : Int32} (hx : x < 1) (hp : post 0) : wpX_wordsOf post u x := by
  revert R
  refine sx_el (Q := fun u => wpX_wordsOf post u x) ?_ u
  intro f_states f_whole f_counted f_stateAt a_length a_shorter a_firstEnd a_next a_copied a_places a_gap a_cost hA
  obtain ⟨N, L, sh, E, nx, T, rfl, rfl, hN, I, ⟨bL, b0, bS, bE, bN, bC⟩, bP⟩ := hA
  have hs := D.1
  have N0 : 0 < N := I.1.1
  have le : ∀ m, m < 2 ^ 31 → x ≤ nI m := by
    intro m hm
    rw [Int32.le_iff_toInt_le, nI_toInt hm]
    have : x.toInt < (1 : Int32).toInt := Int32.lt_iff_toInt_lt.mp hx
    rw [show (1 : Int32).toInt = 1 from by decide] at this
    omega
  have key : ∀ d k n, 1 ≤ k → k + d = N → d < n → wX_wordsOf_4 post x (nI s) (nI t) (nI N) (nI (T s s)) f_counted f_stateAt (fun j => nI (tg j)) a_length a_shorter a_firstEnd a_next a_copied a_places a_gap a_cost (fun j => nI (w j)) n 0 (nI k) := by
    intro d
    induction d with
    | zero =>
      intro k n k1 hk hn
      obtain ⟨n, rfl⟩ : ∃ q, n = q + 1 := ⟨n - 1, by omega⟩
      have e : k = N := by omega
      subst e
      exact pk_le k k (fun _ => hp) (fun y => by omega)
    | succ d ih =>
      intro k n k1 hk hn
      obtain ⟨n, rfl⟩ : ∃ q, n = q + 1 := ⟨n - 1, by omega⟩
      have kN : k < N := by omega
      obtain ⟨b1, b2, b3, b4, b5, b6⟩ := I.2.2.1 k kN (by omega)
      have b1' : sh k < N := b1
      have ek : (nI k).toNatClampNeg = k := nI_clamp (by omega)
      have es : (nI (sh k)).toNatClampNeg = sh k := nI_clamp (by omega)
      refine pk_le N k (fun y => by omega) (fun _ => ⟨pk_in k 65 (by omega), ?_⟩)
      rw [ek, bS k kN (by omega), es, bL k kN, bL _ b1]
      exact ⟨pk_in (sh k) 65 (by omega), br_t (le _ (by omega)) (nm_r (nI_1 k) (ih (k + 1) n (by omega) (by omega) (by omega)))⟩
  exact ⟨N + 1, key (N - 1) 1 (N + 1) (by omega) (by omega) (by omega)⟩
theorem xc_repeat {post : Int32 → SX → Prop} (D : sx_D s t w tg) {u : SX} (R : sx_R s t w tg u) (hp : ∀ r u', qu_rep w s r → sx_R s t w tg u' → post (nI r) u') : wpX_longestRepeat post u := by
  revert R
  refine sx_el (Q := fun u => wpX_longestRepeat post u) ?_ u
  intro f_states f_whole f_counted f_stateAt a_length a_shorter a_firstEnd a_next a_copied a_places a_gap a_cost hA
  obtain ⟨N, L, sh, E, nx, T, rfl, rfl, hN, I, B, bP⟩ := hA
  have hs := D.1
  have N0 : 0 < N := I.1.1
  refine xc_count I (by omega) hs B bP (fun f a ha => ⟨N + 1, ?_⟩)
  have RR : sx_R s t w tg (nI s, nI t, nI N, nI (T s s), f, f_stateAt, fun j => nI (tg j), a_length, a_shorter, a_firstEnd, a_next, a_copied, a, a_gap, a_cost, fun j => nI (w j)) := ⟨rfl, rfl, rfl, rfl, N, L, sh, E, nx, T, rfl, rfl, hN, I, B, Or.inr ha⟩
  have key : ∀ d k n b, 1 ≤ k → k + d = N → d < n → b ≤ s → (b = 0 ∨ qu_tw w s b) → (∀ x, x < k → x ≠ 0 → 2 ≤ qu_oc s L T x → L x ≤ b) → wX_longestRepeat_8 post (nI s) (nI t) (nI N) (nI (T s s)) f f_stateAt (fun j => nI (tg j)) a_length a_shorter a_firstEnd a_next a_copied a a_gap a_cost (fun j => nI (w j)) n (nI b) (nI k) := by
    intro d
    induction d with
    | zero =>
      intro k n b k1 hk hn hb h1 h2
      obtain ⟨n, rfl⟩ : ∃ q, n = q + 1 := ⟨n - 1, by omega⟩
      have e : k = N := by omega
      subst e
      refine pk_le k k (fun _ => hp b _ ⟨h1, fun m hm => ?_⟩ RR) (fun y => by omega)
      obtain ⟨x, x1, x2, x3, x4⟩ := qu_twN I hm
      have := h2 x x1 x2 x3
      omega
    | succ d ih =>
      intro k n b k1 hk hn hb h1 h2
      obtain ⟨n, rfl⟩ : ∃ q, n = q + 1 := ⟨n - 1, by omega⟩
      have kN : k < N := by omega
      have k0 : k ≠ 0 := by omega
      have ek : (nI k).toNatClampNeg = k := nI_clamp (by omega)
      have ol : qu_oc s L T k ≤ s + 1 := cn_le _ _
      have lk := sa_LE I kN
      refine pk_le N k (fun y => by omega) (fun _ => ⟨pk_in k 65 (by omega), ?_⟩)
      rw [ek, ha k kN k0, B.1 k kN]
      refine pk_le (qu_oc s L T k) 1 (fun y => nm_r (nI_1 k) (ih (k + 1) n b (by omega) (by omega) (by omega) hb h1 (fun x hx x0 h => ?_))) (fun y => ⟨pk_in k 65 (by omega), pk_le (L k) b (fun v => nm_r (nI_1 k) (ih (k + 1) n b (by omega) (by omega) (by omega) hb h1 (fun x hx x0 h => ?_))) (fun v => ⟨pk_in k 65 (by omega), nm_e (nm_r (nI_1 k) (ih (k + 1) n (L k) (by omega) (by omega) (by omega) (by omega) (Or.inr (qu_twX I kN k0 (by omega))) (fun x hx x0 h => ?_)))⟩)⟩)
      · by_cases e : x = k
        · subst e; omega
        · exact h2 x (by omega) x0 h
      · by_cases e : x = k
        · subst e; exact v
        · exact h2 x (by omega) x0 h
      · by_cases e : x = k
        · subst e; exact Nat.le_refl _
        · have := h2 x (by omega) x0 h
          omega
  exact key (N - 1) 1 (N + 1) 0 (by omega) (by omega) (by omega) (by omega) (Or.inl rfl) (fun x hx x0 => by omega)
end
end
section
/-! the component's remaining walks: absent words, occurrences, the least cost -/
def gp_ok (s : Nat) (L : Nat → Nat) (nx : Nat → Nat → Nat) (a : Nat → Int32) (x : Nat) : Prop := ∃ g, a x = nI g ∧ ab_G nx x g ∧ g + L x ≤ s + 1
section
variable {f_s f_t f_states f_whole f_counted f_stateAt : Int32} {a_target a_length a_shorter a_firstEnd a_next a_copied a_places a_gap a_cost a_letters : Nat → Int32} {s t N : Nat} {w tg : Nat → Nat} {L sh E : Nat → Nat} {nx T : Nat → Nat → Nat}
/-- the least so far, over the letters below c -/
def gp_in (s : Nat) (L : Nat → Nat) (nx : Nat → Nat → Nat) (k c b : Nat) : Prop :=
  (∀ d, d < c → (nx k d = 0 → b ≤ 1) ∧ (nx k d ≠ 0 → 2 ≤ b → ab_R nx (b - 2) (nx k d))) ∧ ((c = 0 ∧ b = 100) ∨ (1 ≤ b ∧ b + L k ≤ s + 1 ∧ ¬ ab_R nx b k))
theorem gp_step {k c b v : Nat} (hs : s ≤ 32) (hc : c < 4) (h : gp_in s L nx k c b) (hv0 : nx k c = 0 → v = 1) (hv : nx k c ≠ 0 → ∃ g, v = g + 1 ∧ ab_G nx (nx k c) g) (hvs : v + L k ≤ s + 1) :
    (b ≤ v → gp_in s L nx k (c + 1) b) ∧ (v < b → gp_in s L nx k (c + 1) v) ∧ 1 ≤ v := by
  have v1 : 1 ≤ v := by
    by_cases z : nx k c = 0
    · have := hv0 z; omega
    · obtain ⟨g, e, _⟩ := hv z; omega
  have nv : ¬ ab_R nx v k := by
    intro q
    by_cases z : nx k c = 0
    · rw [hv0 z] at q
      exact (q c hc).1 z
    · obtain ⟨g, e, hg⟩ := hv z
      rw [e] at q
      exact hg.2.2 (q c hc).2
  have own : ∀ b', b' ≤ v → (nx k c = 0 → b' ≤ 1) ∧ (nx k c ≠ 0 → 2 ≤ b' → ab_R nx (b' - 2) (nx k c)) := by
    intro b' hb
    refine ⟨fun z => by have := hv0 z; omega, fun z h2 => ?_⟩
    obtain ⟨g, e, hg⟩ := hv z
    exact ab_mono (by omega) hg.2.1
  refine ⟨fun hb => ⟨fun d hd => ?_, ?_⟩, fun hb => ⟨fun d hd => ?_, Or.inr ⟨v1, hvs, nv⟩⟩, v1⟩
  · by_cases e : d = c
    · subst e; exact own b hb
    · exact h.1 d (by omega)
  · rcases h.2 with y | y
    · omega
    · exact Or.inr y
  · by_cases e : d = c
    · subst e; exact own v (Nat.le_refl _)
    · have y := h.1 d (by omega)
      refine ⟨fun z => by have := y.1 z; omega, fun z h2 => ab_mono (by omega) (y.2 z (by omega))⟩
theorem gp_end {k b : Nat} (h : gp_in s L nx k 4 b) : ab_G nx k b ∧ b + L k ≤ s + 1 := by
  rcases h.2 with y | y
  · omega
  · refine ⟨⟨y.1, ?_, y.2.2⟩, y.2.1⟩
    by_cases z : b = 1
    · subst z; trivial
    · obtain ⟨b, rfl⟩ : ∃ q, b = q + 2 := ⟨b - 2, by omega⟩
      intro c hc
      have q := h.1 c hc
      refine ⟨fun v => by have := q.1 v; omega, ?_⟩
      exact q.2 (fun v => by have := q.1 v; omega) (by omega)
theorem xa_gap {post : Int32 → Prop} (I : sa_Inv w s (fun k => k < N) L sh E nx T) (hN : N ≤ 65) (hs : s ≤ 32) (bN : ∀ k d, k < N → d < 4 → a_next (k * 4 + d) = en_x (nx k d)) {k : Nat} (hk : k < N)
    (hg : ∀ c, c < 4 → nx k c ≠ 0 → gp_ok s L nx a_gap (nx k c)) (hp : ∀ g, ab_G nx k g → g + L k ≤ s + 1 → post (nI g)) : wpX_gapOf post (f_s, f_t, f_states, f_whole, f_counted, f_stateAt, a_target, a_length, a_shorter, a_firstEnd, a_next, a_copied, a_places, a_gap, a_cost, a_letters) (nI k) := by
  have lk := sa_LE I hk
  have key : ∀ d c n b, c + d = 4 → d < n → b ≤ 100 → gp_in s L nx k c b → wX_gapOf_5 post (nI k) f_s f_t f_states f_whole f_counted f_stateAt a_target a_length a_shorter a_firstEnd a_next a_copied a_places a_gap a_cost a_letters n (nI b) (nI c) := by
    intro d
    induction d with
    | zero =>
      intro c n b hc hn hb h
      obtain ⟨n, rfl⟩ : ∃ q, n = q + 1 := ⟨n - 1, by omega⟩
      have e : c = 4 := by omega
      subst e
      have q := gp_end h
      exact pk_le 4 4 (fun _ => hp b q.1 q.2) (fun y => by omega)
    | succ d ih =>
      intro c n b hc hn hb h
      obtain ⟨n, rfl⟩ : ∃ q, n = q + 1 := ⟨n - 1, by omega⟩
      have e : (nI k * 4 + nI c).toNatClampNeg = k * 4 + c := pk_cl (k * 4 + c) (ix_e k c)
      refine pk_le 4 c (fun y => by omega) (fun _ => ⟨pk_in (k * 4 + c) 260 (by omega) (ix_e k c), nm_r (e' := en_x (nx k c)) (by rw [e, bN k c hk (by omega)]) ?_⟩)
      have fin : ∀ v, v < 2 ^ 31 → (b ≤ v → gp_in s L nx k (c + 1) b) → (v < b → gp_in s L nx k (c + 1) v) → wX_gapOf_40 post (wX_gapOf_5 post (nI k) f_s f_t f_states f_whole f_counted f_stateAt a_target a_length a_shorter a_firstEnd a_next a_copied a_places a_gap a_cost a_letters n) (nI k) (nI b) (nI c) (nI v) f_s f_t f_states f_whole f_counted f_stateAt a_target a_length a_shorter a_firstEnd a_next a_copied a_places a_gap a_cost a_letters := by
        intro v hv h1 h2
        exact pk_le b v (fun y => nm_r (nI_1 c) (ih (c + 1) n b (by omega) (by omega) hb (h1 y))) (fun y => nm_r (nI_1 c) (ih (c + 1) n v (by omega) (by omega) (by omega) (h2 y)))
      by_cases z : nx k c = 0
      · rw [en_0 z]
        have st := gp_step (v := 1) hs (by omega) h (fun _ => rfl) (fun y => absurd z y) (by omega)
        exact br_f (by decide) (fin 1 (by omega) st.1 st.2.1)
      · have qn := qu_len I hk (show c < 4 by omega) z
        obtain ⟨g, g1, g2, g3⟩ := hg c (by omega) z
        have st := gp_step (v := g + 1) hs (by omega) h (fun y => absurd y z) (fun _ => ⟨g, rfl, g2⟩) (by omega)
        rw [en_n z]
        refine br_t (nI_pos' (by omega)) ⟨pk_in (nx k c) 65 (by omega), ?_⟩
        rw [nI_clamp (show nx k c < 2 ^ 31 by omega), g1, nI_1]
        exact fin (g + 1) (by omega) st.1 st.2.1
  exact ⟨5, key 4 0 5 100 (by omega) (by omega) (by omega) ⟨fun d hd => by omega, Or.inl ⟨rfl, rfl⟩⟩⟩
theorem xa_11 {post : Int32 → SX → Prop} (I : sa_Inv w s (fun k => k < N) L sh E nx T) (hN : N ≤ 65) (hs : s ≤ 32) (bL : ∀ k, k < N → a_length k = nI (L k)) (bN : ∀ k d, k < N → d < 4 → a_next (k * 4 + d) = en_x (nx k d)) {z n5 : Nat} (hz : z ≤ s)
    (J : ∀ a, (∀ x, x < N → z ≤ L x → gp_ok s L nx a x) → wX_shortestAbsent_5 post (nI s) (nI t) (nI N) f_whole f_counted f_stateAt n5 (nI z + (-1)) (fun j => nI (tg j)) a_length a_shorter a_firstEnd a_next a_copied a_places a a_cost (fun j => nI (w j))) :
    ∀ d k n a, k + d = N → d < n → (∀ x, x < N → z < L x ∨ (L x = z ∧ x < k) → gp_ok s L nx a x) → wX_shortestAbsent_11 post (wX_shortestAbsent_5 post (nI s) (nI t) (nI N) f_whole f_counted f_stateAt n5) (nI z) (nI s) (nI t) (nI N) f_whole f_counted f_stateAt n (nI k) (fun j => nI (tg j)) a_length a_shorter a_firstEnd a_next a_copied a_places a a_cost (fun j => nI (w j)) := by
  intro d
  induction d with
  | zero =>
    intro k n a hk hn h
    obtain ⟨n, rfl⟩ : ∃ q, n = q + 1 := ⟨n - 1, by omega⟩
    have e : k = N := by omega
    subst e
    exact pk_le k k (fun _ => nm_e (J a (fun x hx hl => h x hx (by omega)))) (fun y => by omega)
  | succ d ih =>
    intro k n a hk hn h
    obtain ⟨n, rfl⟩ : ∃ q, n = q + 1 := ⟨n - 1, by omega⟩
    have kN : k < N := by omega
    have ek : (nI k).toNatClampNeg = k := nI_clamp (by omega)
    have lk := sa_LE I kN
    refine pk_le N k (fun y => by omega) (fun _ => ⟨pk_in k 65 (by omega), ?_⟩)
    rw [ek, bL k kN]
    refine pk_eq (L k) z (fun y => ?_) (fun y => nm_r (nI_1 k) (ih (k + 1) n a (by omega) (by omega) (fun x hx hl => ?_)))
    · refine xa_gap I hN hs bN kN (fun c hc hx => ?_) (fun g g1 g2 => ⟨pk_in k 65 (by omega), nm_e (nm_r (nI_1 k) (ih (k + 1) n _ (by omega) (by omega) (fun x hx hl => ?_)))⟩)
      · have q := qu_len I kN hc hx
        exact h _ q.1 (Or.inl (by omega))
      · by_cases e : x = k
        · subst e
          exact ⟨g, pk_us, g1, g2⟩
        · obtain ⟨g', q1, q2, q3⟩ := h x hx (by omega)
          exact ⟨g', by rw [pk_un e]; exact q1, q2, q3⟩
    · refine h x hx ?_
      by_cases e : x = k
      · subst e; omega
      · omega
theorem xa_5 {post : Int32 → SX → Prop} (I : sa_Inv w s (fun k => k < N) L sh E nx T) (hN : N ≤ 65) (hs : s ≤ 32) (bL : ∀ k, k < N → a_length k = nI (L k)) (bN : ∀ k d, k < N → d < 4 → a_next (k * 4 + d) = en_x (nx k d))
    (hp : ∀ g a, ab_G nx 0 g → post (nI g) (nI s, nI t, nI N, f_whole, f_counted, f_stateAt, fun j => nI (tg j), a_length, a_shorter, a_firstEnd, a_next, a_copied, a_places, a, a_cost, fun j => nI (w j))) :
    ∀ z n a, z ≤ s + 1 → z < n → (∀ x, x < N → z ≤ L x → gp_ok s L nx a x) → wX_shortestAbsent_5 post (nI s) (nI t) (nI N) f_whole f_counted f_stateAt n (nI z + (-1)) (fun j => nI (tg j)) a_length a_shorter a_firstEnd a_next a_copied a_places a a_cost (fun j => nI (w j)) := by
  intro z
  induction z with
  | zero =>
    intro n a hz hn h
    obtain ⟨n, rfl⟩ : ∃ q, n = q + 1 := ⟨n - 1, by omega⟩
    obtain ⟨g, g1, g2, g3⟩ := h 0 I.1.1 (Nat.zero_le _)
    refine br_t (by decide) ?_
    rw [g1]
    exact hp g a g2
  | succ z ih =>
    intro n a hz hn h
    obtain ⟨n, rfl⟩ : ∃ q, n = q + 1 := ⟨n - 1, by omega⟩
    rw [pk_m1]
    refine br_f (nI_pos (by omega)) ⟨N + 1, ?_⟩
    exact xa_11 I hN hs bL bN (by omega) (fun a' h' => ih n a' (by omega) (by omega) h') N 0 (N + 1) a (by omega) (by omega) (fun x hx hl => h x hx (by omega))
end
section
variable {s t : Nat} {w tg : Nat → Nat}
theorem xa_absent {post : Int32 → SX → Prop} (D : sx_D s t w tg) {u : SX} (R : sx_R s t w tg u)
    (hp : ∀ g u', (∀ r, 1 ≤ r → (∀ m, 1 ≤ m → m < r → qu_wo w s m = 4 ^ m) → qu_wo w s r ≠ 4 ^ r → r = g) → sx_R s t w tg u' → post (nI g) u') : wpX_shortestAbsent post u := by
  revert R
  refine sx_el (Q := fun u => wpX_shortestAbsent post u) ?_ u
  intro f_states f_whole f_counted f_stateAt a_length a_shorter a_firstEnd a_next a_copied a_places a_gap a_cost hA
  obtain ⟨N, L, sh, E, nx, T, rfl, rfl, hN, I, B, bP⟩ := hA
  have hs := D.1
  have key := xa_5 (post := post) (f_whole := nI (T s s)) (f_counted := f_counted) (f_stateAt := f_stateAt) (t := t) (tg := tg) (a_shorter := a_shorter) (a_firstEnd := a_firstEnd) (a_copied := a_copied) (a_places := a_places) (a_cost := a_cost) I (by omega) hs B.1 B.2.2.2.2.1 (fun g a hg => hp g _ (fun r r1 h1 h2 => ?_) ⟨rfl, rfl, rfl, rfl, N, L, sh, E, nx, T, rfl, rfl, hN, I, B, bP⟩) (s + 1) (s + 2) a_gap (Nat.le_refl _) (by omega) (fun x hx hl => ?_)
  · rw [pk_m1] at key
    exact ⟨s + 2, key⟩
  · refine ab_u (k := 0) ⟨r1, ?_, fun z => h2 ((ab_wo I r).mp z)⟩ hg
    by_cases e : r = 1
    · subst e; trivial
    · exact (ab_wo I (r - 1)).mpr (h1 (r - 1) (by omega) (by omega))
  · have := sa_LE I hx
    omega
theorem xa_occ {post : Int32 → SX → Prop} (D : sx_D s t w tg) {u : SX} (R : sx_R s t w tg u) {i j : Nat} (hij : i ≤ j) (hj : j ≤ t)
    (hp : ∀ u', sx_R s t w tg u' → post (nI (cn_n (fun k => k + (j - i) ≤ s ∧ wd_st w tg k i (j - i)) (s + 1))) u') : wpX_occurrences post u (nI i) (nI j) := by
  revert R
  refine sx_el (Q := fun u => wpX_occurrences post u (nI i) (nI j)) ?_ u
  intro f_states f_whole f_counted f_stateAt a_length a_shorter a_firstEnd a_next a_copied a_places a_gap a_cost hA
  have RR : sx_R s t w tg (nI s, nI t, f_states, f_whole, f_counted, f_stateAt, fun j => nI (tg j), a_length, a_shorter, a_firstEnd, a_next, a_copied, a_places, a_gap, a_cost, fun j => nI (w j)) := ⟨rfl, rfl, rfl, rfl, hA⟩
  obtain ⟨N, L, sh, E, nx, T, rfl, rfl, hN, I, B, bP⟩ := hA
  obtain ⟨hs, ht, hw, htg⟩ := D
  have N0 : 0 < N := I.1.1
  refine br_f (nI_pos (by omega)) (pk_lt j i (fun z => by omega) (fun _ => pk_le j t (fun _ => pk_eq i j (fun z => ?_) (fun z => ⟨j - i + 2, ?_⟩)) (fun z => by omega)))
  · rw [cn_all (fun k hk => ⟨by omega, by rw [show j - i = 0 from by omega]; exact wd_st0 w tg k i⟩)] at hp
    rw [nI_1]
    exact hp _ RR
  · -- the end: the count at a state, or none
    have fin0 : ¬ wd_F w tg s i (j - i) → wX_occurrences_69 post (-1) (nI s) (nI t) (nI N) (nI (T s s)) f_counted f_stateAt (fun j => nI (tg j)) a_length a_shorter a_firstEnd a_next a_copied a_places a_gap a_cost (fun j => nI (w j)) := by
      intro hF
      refine xc_count I (by omega) hs B bP (fun f a ha => br_f (by decide) ?_)
      rw [cn_none (fun k hk y => hF ⟨k, y.1, y.2⟩)] at hp
      exact hp _ ⟨rfl, rfl, rfl, rfl, N, L, sh, E, nx, T, rfl, rfl, hN, I, B, Or.inr ha⟩
    have fin1 : ∀ k, k + (j - i) ≤ s → wd_st w tg k i (j - i) → wX_occurrences_69 post (nI (T (k + (j - i)) (j - i))) (nI s) (nI t) (nI N) (nI (T s s)) f_counted f_stateAt (fun j => nI (tg j)) a_length a_shorter a_firstEnd a_next a_copied a_places a_gap a_cost (fun j => nI (w j)) := by
      intro k hk hst
      have tn : T (k + (j - i)) (j - i) < N := (I.2.1 (k + (j - i)) (j - i) (by omega) hk).1
      have t0 := sa_nz I (show j - i ≤ k + (j - i) by omega) hk (by omega)
      refine xc_count I (by omega) hs B bP (fun f a ha => br_t (nI_pos' (by omega)) ⟨pk_in (T (k + (j - i)) (j - i)) 65 (by omega), ?_⟩)
      rw [nI_clamp (show T (k + (j - i)) (j - i) < 2 ^ 31 by omega), ha _ tn t0, ← qu_occ I hk hst]
      exact hp _ ⟨rfl, rfl, rfl, rfl, N, L, sh, E, nx, T, rfl, rfl, hN, I, B, Or.inr ha⟩
    have key : ∀ d m n k, m + d = j - i → d + 1 < n → k + m ≤ s → wd_st w tg k i m → wX_occurrences_36 post (nI j) (nI s) (nI t) (nI N) (nI (T s s)) f_counted f_stateAt (fun j => nI (tg j)) a_length a_shorter a_firstEnd a_next a_copied a_places a_gap a_cost (fun j => nI (w j)) n (nI (T (k + m) m)) (nI (i + m)) := by
      intro d
      induction d with
      | zero =>
        intro m n k hm hn hk hst
        obtain ⟨n, rfl⟩ : ∃ q, n = q + 1 := ⟨n - 1, by omega⟩
        have e : m = j - i := by omega
        subst e
        exact pk_le j (i + (j - i)) (fun _ => fin1 k hk hst) (fun y => by omega)
      | succ d ih =>
        intro m n k hm hn hk hst
        obtain ⟨n, rfl⟩ : ∃ q, n = q + 1 := ⟨n - 1, by omega⟩
        have tn : T (k + m) m < N := (I.2.1 (k + m) m (by omega) hk).1
        have l4 := htg (i + m)
        have e0 : (nI (i + m)).toNatClampNeg = i + m := nI_clamp (by omega)
        have e : nI (T (k + m) m) * 4 + nI (tg (i + m)) = nI (T (k + m) m * 4 + tg (i + m)) := ix_e _ _
        have e2 : (nI (T (k + m) m) * 4 + nI (tg (i + m))).toNatClampNeg = T (k + m) m * 4 + tg (i + m) := pk_cl _ e
        refine pk_le j (i + m) (fun y => by omega) (fun _ => br_f (nI_pos (by omega)) ?_)
        rw [e0, e2, B.2.2.2.2.1 _ _ tn l4]
        refine ⟨pk_in (i + m) 24 (by omega), pk_in (T (k + m) m * 4 + tg (i + m)) 260 (by omega) e, ?_⟩
        by_cases y : nx (T (k + m) m) (tg (i + m)) = 0
        · rw [en_0 y]
          have nF : ¬ wd_F w tg s i (j - i) := fun v => qu_rd0 I hk hst y (wd_Fm (by omega) v)
          refine nm_e (nm_r (nI_1 (i + m)) ?_)
          obtain ⟨n, rfl⟩ : ∃ q, n = q + 1 := ⟨n - 1, by omega⟩
          exact pk_le j (i + m + 1) (fun _ => fin0 nF) (fun _ => br_t (by decide) (fin0 nF))
        · rw [en_n y]
          obtain ⟨x, j1, j2, j3⟩ := qu_rd1 I hk hst l4 y
          rw [j3]
          exact nm_e (nm_r (nI_1 (i + m)) (ih (m + 1) n x (by omega) (by omega) j1 j2))
    have z0 : T (0 + 0) 0 = 0 := sa_z I (Nat.zero_le _)
    have q := key (j - i) 0 (j - i + 2) 0 (by omega) (by omega) (Nat.zero_le _) (wd_st0 w tg 0 i)
    rw [z0] at q
    exact q
section
variable {f_s f_t f_states f_whole f_counted f_stateAt : Int32} {a_target a_length a_shorter a_firstEnd a_next a_copied a_places a_gap a_cost a_letters : Nat → Int32}
theorem xa_longK {post : Int32 → SX → Prop} (D : sx_D s t w tg) (hA : sx_A s w f_states f_whole f_counted a_length a_shorter a_firstEnd a_next a_copied a_places) {i : Nat} (hi : i ≤ t)
    (hp : ∀ q, post (nI (wd_lf w tg s t i)) (nI s, nI t, f_states, f_whole, f_counted, q, fun j => nI (tg j), a_length, a_shorter, a_firstEnd, a_next, a_copied, a_places, a_gap, a_cost, fun j => nI (w j))) : wpX_longestFrom post (nI s, nI t, f_states, f_whole, f_counted, f_stateAt, fun j => nI (tg j), a_length, a_shorter, a_firstEnd, a_next, a_copied, a_places, a_gap, a_cost, fun j => nI (w j)) (nI i) := by
  obtain ⟨N, L, sh, E, nx, T, rfl, rfl, hN, I, ⟨bL, b0, bS, bE, bN, bC⟩, bP⟩ := hA
  have hs := D.1
  have z0 : T (0 + 0) 0 = 0 := sa_z I (Nat.zero_le _)
  have key := xq_l9 (post := post) D I (by omega) bN hi (f_states := nI N) (f_whole := nI (T s s)) (f_counted := f_counted) (a_length := a_length) (a_shorter := a_shorter) (a_firstEnd := a_firstEnd) (a_copied := a_copied) (a_places := a_places) (a_gap := a_gap) (a_cost := a_cost) (fun k hk hst => hp _) (t - i) 0 (t - i + 1) 0 (by omega) (by omega) (Nat.zero_le _) (wd_st0 w tg 0 i)
  rw [z0] at key
  exact ⟨t - i + 1, key⟩
end
def cx_in (w tg : Nat → Nat) (s t copy add i k b : Nat) (cX : Nat → Nat) : Prop :=
  b ≤ cX (i + 1) + add ∧ (∀ x, 1 ≤ x → x < k → b ≤ cX (i + x) + copy) ∧ (b = cX (i + 1) + add ∨ ∃ x, 1 ≤ x ∧ x ≤ wd_lf w tg s t i ∧ b = cX (i + x) + copy)
section
variable {f_s f_t f_states f_whole f_counted f_stateAt : Int32} {a_target a_length a_shorter a_firstEnd a_next a_copied a_places a_gap a_cost a_letters : Nat → Int32}
theorem xa_65 {post : Int32 → SX → Prop} (D : sx_D s t w tg) {copy add i n39 : Nat} {cX : Nat → Nat} (hc : copy ≤ 100) (ha : add ≤ 100) (hi : i < t) (hb : ∀ x, i + 1 ≤ x → x ≤ t → cX x ≤ 100 * (t - x)) (hco : ∀ x, i + 1 ≤ x → x ≤ t → a_cost x = nI (cX x))
    (J : ∀ b, cx_in w tg s t copy add i (wd_lf w tg s t i + 1) b cX → wX_cheapest_39 post (nI copy) (nI add) n39 (nI i + (-1)) f_s f_t f_states f_whole f_counted f_stateAt a_target a_length a_shorter a_firstEnd a_next a_copied a_places a_gap (upd a_cost i (nI b)) a_letters) :
    ∀ d k n b, 1 ≤ k → k + d = wd_lf w tg s t i + 1 → d < n → cx_in w tg s t copy add i k b cX → wX_cheapest_65 post (wX_cheapest_39 post (nI copy) (nI add) n39) (nI copy) (nI add) (nI i) (nI (wd_lf w tg s t i)) f_s f_t f_states f_whole f_counted f_stateAt a_target a_length a_shorter a_firstEnd a_next a_copied a_places a_gap a_cost a_letters n (nI b) (nI k) := by
  have ht := D.2.1
  have l := wd_lf_le w tg s t i
  intro d
  induction d with
  | zero =>
    intro k n b k1 hk hn h
    obtain ⟨n, rfl⟩ : ∃ q, n = q + 1 := ⟨n - 1, by omega⟩
    have e : k = wd_lf w tg s t i + 1 := by omega
    rw [e] at h
    have ei : (nI i).toNatClampNeg = i := nI_clamp (by omega)
    exact pk_lt (wd_lf w tg s t i) k (fun _ => ⟨pk_in i 25 (by omega), nm_r (e' := upd a_cost i (nI b)) (by rw [ei]) (nm_e (J b h))⟩) (fun y => by omega)
  | succ d ih =>
    intro k n b k1 hk hn h
    obtain ⟨n, rfl⟩ : ∃ q, n = q + 1 := ⟨n - 1, by omega⟩
    have e : (nI i + nI k).toNatClampNeg = i + k := pk_cl (i + k) (nI_add i k)
    have b1 := hb (i + k) (by omega) (by omega)
    have b2 := hb (i + 1) (by omega) (by omega)
    have b3 := h.1
    refine pk_lt (wd_lf w tg s t i) k (fun y => by omega) (fun _ => ⟨pk_in (i + k) 25 (by omega) (nI_add i k), nm_r (e' := nI (cX (i + k) + copy)) (by rw [e, hco (i + k) (by omega) (by omega), nI_add]) ?_⟩)
    refine pk_le b (cX (i + k) + copy) (fun y => nm_r (nI_1 k) (ih (k + 1) n b (by omega) (by omega) (by omega) ⟨h.1, fun x x1 x2 => ?_, h.2.2⟩)) (fun y => nm_r (nI_1 k) (ih (k + 1) n (cX (i + k) + copy) (by omega) (by omega) (by omega) ⟨by omega, fun x x1 x2 => ?_, Or.inr ⟨k, k1, by omega, rfl⟩⟩))
    · by_cases e : x = k
      · subst e; exact y
      · exact h.2.1 x x1 (by omega)
    · by_cases e : x = k
      · subst e; exact Nat.le_refl _
      · have := h.2.1 x x1 (by omega)
        omega
end
theorem xa_39 {post : Int32 → SX → Prop} (D : sx_D s t w tg) {copy add : Nat} (hc : copy ≤ 100) (ha : add ≤ 100) (hp : ∀ cX u', dp_X w tg s t copy add cX 0 → sx_R s t w tg u' → post (nI (cX 0)) u') :
    ∀ i n cX f_states f_whole f_counted f_stateAt a_length a_shorter a_firstEnd a_next a_copied a_places a_gap a_cost, i ≤ t → i < n → dp_X w tg s t copy add cX i → (∀ x, i ≤ x → x ≤ t → a_cost x = nI (cX x)) → sx_A s w f_states f_whole f_counted a_length a_shorter a_firstEnd a_next a_copied a_places → wX_cheapest_39 post (nI copy) (nI add) n (nI i + (-1)) (nI s) (nI t) f_states f_whole f_counted f_stateAt (fun j => nI (tg j)) a_length a_shorter a_firstEnd a_next a_copied a_places a_gap a_cost (fun j => nI (w j)) := by
  have ht := D.2.1
  intro i
  induction i with
  | zero =>
    intro n cX f_states f_whole f_counted f_stateAt a_length a_shorter a_firstEnd a_next a_copied a_places a_gap a_cost hi hn h1 h2 hA
    obtain ⟨n, rfl⟩ : ∃ q, n = q + 1 := ⟨n - 1, by omega⟩
    refine br_t (by decide) ?_
    rw [h2 0 (Nat.le_refl _) (Nat.zero_le _)]
    exact hp cX _ h1 ⟨rfl, rfl, rfl, rfl, hA⟩
  | succ i ih =>
    intro n cX f_states f_whole f_counted f_stateAt a_length a_shorter a_firstEnd a_next a_copied a_places a_gap a_cost hi hn h1 h2 hA
    obtain ⟨n, rfl⟩ : ∃ q, n = q + 1 := ⟨n - 1, by omega⟩
    rw [pk_m1]
    have e : (nI i + 1).toNatClampNeg = i + 1 := pk_cl (i + 1) (nI_1 i)
    refine br_f (nI_pos (by omega)) ⟨pk_in (i + 1) 25 (by omega) (nI_1 i), nm_r (e' := nI (cX (i + 1) + add)) (by rw [e, h2 (i + 1) (Nat.le_refl _) hi, nI_add]) ?_⟩
    refine xa_longK D hA (by omega) (fun q => ⟨wd_lf w tg s t i + 1, ?_⟩)
    refine xa_65 D hc ha (by omega) h1.2.2.2 h2 (fun b hb => ?_) (wd_lf w tg s t i) 1 (wd_lf w tg s t i + 1) (cX (i + 1) + add) (by omega) (by omega) (by omega) ⟨Nat.le_refl _, fun x x1 x2 => by omega, Or.inl rfl⟩
    refine ih n (fun x => if x = i then b else cX x) f_states f_whole f_counted q a_length a_shorter a_firstEnd a_next a_copied a_places a_gap (upd a_cost i (nI b)) (by omega) (by omega) (dp_Xext h1 (by omega) ha hb.1 (fun k k1 k2 => hb.2.1 k k1 (by omega)) hb.2.2) (fun x x1 x2 => ?_) hA
    by_cases ex : x = i
    · rw [ex, pk_us]
      exact congrArg nI (if_pos rfl).symm
    · rw [pk_un ex, h2 x (by omega) x2]
      exact congrArg nI (if_neg ex).symm
theorem xa_cheapest {post : Int32 → SX → Prop} (D : sx_D s t w tg) {u : SX} (R : sx_R s t w tg u) {copy add : Nat} (hc : copy ≤ 100) (ha : add ≤ 100) (hp : ∀ cX u', dp_X w tg s t copy add cX 0 → sx_R s t w tg u' → post (nI (cX 0)) u') : wpX_cheapest post u (nI copy) (nI add) := by
  revert R
  refine sx_el (Q := fun u => wpX_cheapest post u (nI copy) (nI add)) ?_ u
  intro f_states f_whole f_counted f_stateAt a_length a_shorter a_firstEnd a_next a_copied a_places a_gap a_cost hA
  have ht := D.2.1
  have et : (nI t).toNatClampNeg = t := nI_clamp (by omega)
  refine br_f (nI_pos (by omega)) (pk_lt 100 copy (fun z => by omega) (fun _ => br_f (nI_pos (by omega)) (pk_le add 100 (fun _ => ⟨pk_in t 25 (by omega), nm_r (e' := upd a_cost t 0) (by rw [et]) (nm_r (e' := nI t + (-1)) (Int32.sub_eq_add_neg _ _) ⟨t + 1, ?_⟩)⟩) (fun z => by omega))))
  exact xa_39 D hc ha hp t (t + 1) (fun _ => 0) f_states f_whole f_counted f_stateAt a_length a_shorter a_firstEnd a_next a_copied a_places a_gap (upd a_cost t 0) (Nat.le_refl _) (by omega) (dp_Xlast w tg s t copy add) (fun x x1 x2 => by rw [show x = t from by omega, pk_us]; rfl) hA
end
end
section
/-! letters, and the calls that change the texts -/
theorem cl_cases (x : Int32) : (x < 0 ∨ ¬ x ≤ 3) ∨ ∃ c, c < 4 ∧ x = nI c := by
  by_cases h : x < 0
  · exact Or.inl (Or.inl h)
  · by_cases h3 : x ≤ 3
    · obtain ⟨c, hc, e⟩ := nI_of2 (M := 3) (n := 3) (by decide) h h3
      exact Or.inr ⟨c, by omega, e⟩
    · exact Or.inl (Or.inr h3)
theorem cl_xb {post : Int32 → Prop} {u : SX} {x : Int32} (h : x < 0 ∨ ¬ x ≤ 3) (hp : post 1) : wpX_badLetter post u x := by
  obtain ⟨f_s, f_t, f_states, f_whole, f_counted, f_stateAt, a_target, a_length, a_shorter, a_firstEnd, a_next, a_copied, a_places, a_gap, a_cost, a_letters⟩ := u
  exact br_c (fun _ => hp) (fun h0 => br_f (h.resolve_left h0) hp)
theorem cl_xg {post : Int32 → Prop} {u : SX} {c : Nat} (h : c < 4) (hp : post 0) : wpX_badLetter post u (nI c) := by
  obtain ⟨f_s, f_t, f_states, f_whole, f_counted, f_stateAt, a_target, a_length, a_shorter, a_firstEnd, a_next, a_copied, a_places, a_gap, a_cost, a_letters⟩ := u
  exact br_f (nI_pos (by omega)) (pk_le c 3 (fun _ => hp) (fun z => by omega))
theorem cl_yb {post : Int32 → Prop} {v : SY} {x : Int32} (h : x < 0 ∨ ¬ x ≤ 3) (hp : post 0) : wpY_isLetter post v x := by
  obtain ⟨f_s, f_t, a_source, a_target, a_best⟩ := v
  exact br_c (fun _ => hp) (fun h0 => br_t (Int32.not_le.mp (h.resolve_left h0)) hp)
theorem cl_yg {post : Int32 → Prop} {v : SY} {c : Nat} (h : c < 4) (hp : post 1) : wpY_isLetter post v (nI c) := by
  obtain ⟨f_s, f_t, a_source, a_target, a_best⟩ := v
  exact br_f (nI_pos (by omega)) (pk_lt 3 c (fun z => by omega) (fun _ => hp))
/-- one cell of a text written -/
theorem cl_upd (f : Nat → Nat) (k c : Nat) : upd (fun j => nI (f j)) k (nI c) = fun j => nI (if j = k then c else f j) := by
  funext j
  by_cases z : j = k
  · rw [z, pk_us, if_pos rfl]
  · rw [pk_un z, if_neg z]
theorem cl_lt {f : Nat → Nat} {k c : Nat} (hf : ∀ j, f j < 4) (hc : c < 4) : ∀ j, (fun j => if j = k then c else f j) j < 4 := by
  intro j
  show (if j = k then c else f j) < 4
  by_cases z : j = k
  · rw [if_pos z]; exact hc
  · rw [if_neg z]; exact hf j
def i_Rel (k : Nat) (u : SX) (v : SY) : Prop := ∃ (s t : Nat) (w tg : Nat → Nat) (a_best : Nat → Int32), sx_D s t w tg ∧ sx_R s t w tg u ∧ v = (nI s, nI t, fun j => nI (w j), fun j => nI (tg j), a_best)
section
variable {s t : Nat} {w tg : Nat → Nat} {a_best : Nat → Int32}
theorem cl_src_yb {post : Int32 → SY → Prop} {x : Int32} (h : x < 0 ∨ ¬ x ≤ 3) (hp : post (-1) (nI s, nI t, fun j => nI (w j), fun j => nI (tg j), a_best)) : wpY_source post (nI s, nI t, fun j => nI (w j), fun j => nI (tg j), a_best) x := by
  unfold wpY_source
  exact cl_yb h (br_t rfl hp)
theorem cl_src_yf {post : Int32 → SY → Prop} {c : Nat} (h : c < 4) (hs : s = 32) (hp : post (-2) (nI s, nI t, fun j => nI (w j), fun j => nI (tg j), a_best)) : wpY_source post (nI s, nI t, fun j => nI (w j), fun j => nI (tg j), a_best) (nI c) := by
  unfold wpY_source
  subst hs
  exact cl_yg h (br_f (by decide) (br_t rfl hp))
theorem cl_src_yk {post : Int32 → SY → Prop} {c : Nat} (h : c < 4) (hs : s < 32) (hp : post (nI (s + 1)) (nI (s + 1), nI t, fun j => nI (if j = s then c else w j), fun j => nI (tg j), a_best)) : wpY_source post (nI s, nI t, fun j => nI (w j), fun j => nI (tg j), a_best) (nI c) := by
  unfold wpY_source
  have es : (nI s).toNatClampNeg = s := nI_clamp (by omega)
  refine cl_yg h (br_f (by decide) (pk_eq s 32 (fun z => by omega) (fun _ => ⟨pk_in s 32 hs, nm_r (e' := fun j => nI (if j = s then c else w j)) (by rw [es, cl_upd]) (nm_r (nI_1 s) hp)⟩)))
theorem cl_src_xb {post : Int32 → SX → Prop} {u : SX} {x : Int32} (h : x < 0 ∨ ¬ x ≤ 3) (hp : post (-1) u) : wpX_source post u x := by
  obtain ⟨f_s, f_t, f_states, f_whole, f_counted, f_stateAt, a_target, a_length, a_shorter, a_firstEnd, a_next, a_copied, a_places, a_gap, a_cost, a_letters⟩ := u
  unfold wpX_source
  exact cl_xb h (br_f (by decide) hp)
theorem cl_src_xf {post : Int32 → SX → Prop} {u : SX} (R : sx_R s t w tg u) {c : Nat} (h : c < 4) (hs : s = 32) (hp : post (-2) u) : wpX_source post u (nI c) := by
  obtain ⟨f_s, f_t, f_states, f_whole, f_counted, f_stateAt, a_target, a_length, a_shorter, a_firstEnd, a_next, a_copied, a_places, a_gap, a_cost, a_letters⟩ := u
  obtain ⟨rfl, rfl, rfl, rfl, hA⟩ := R
  unfold wpX_source
  subst hs
  exact cl_xg h (br_t rfl (br_t rfl hp))
theorem cl_src_xk {post : Int32 → SX → Prop} {u : SX} (R : sx_R s t w tg u) {c : Nat} (h : c < 4) (hw : ∀ j, w j < 4) (hs : s < 32) (hp : ∀ u', sx_R (s + 1) t (fun j => if j = s then c else w j) tg u' → post (nI (s + 1)) u') : wpX_source post u (nI c) := by
  obtain ⟨f_s, f_t, f_states, f_whole, f_counted, f_stateAt, a_target, a_length, a_shorter, a_firstEnd, a_next, a_copied, a_places, a_gap, a_cost, a_letters⟩ := u
  have R' := R
  obtain ⟨rfl, rfl, rfl, rfl, hA⟩ := R'
  unfold wpX_source
  refine cl_xg h (br_t rfl (pk_eq s 32 (fun z => by omega) (fun _ => ?_)))
  refine xg_grow R hs hw h ?_
  rintro ⟨f_s, f_t, f_states, f_whole, f_counted, f_stateAt, a_target, a_length, a_shorter, a_firstEnd, a_next, a_copied, a_places, a_gap, a_cost, a_letters⟩ R2
  have e := R2.1
  have q := hp _ R2
  subst e
  exact q
theorem cl_tgt_yb {post : Int32 → SY → Prop} {x : Int32} (h : x < 0 ∨ ¬ x ≤ 3) (hp : post (-1) (nI s, nI t, fun j => nI (w j), fun j => nI (tg j), a_best)) : wpY_target post (nI s, nI t, fun j => nI (w j), fun j => nI (tg j), a_best) x := by
  unfold wpY_target
  exact cl_yb h (br_t rfl hp)
theorem cl_tgt_yf {post : Int32 → SY → Prop} {c : Nat} (h : c < 4) (ht : t = 24) (hp : post (-2) (nI s, nI t, fun j => nI (w j), fun j => nI (tg j), a_best)) : wpY_target post (nI s, nI t, fun j => nI (w j), fun j => nI (tg j), a_best) (nI c) := by
  unfold wpY_target
  subst ht
  exact cl_yg h (br_f (by decide) (br_t rfl hp))
theorem cl_tgt_yk {post : Int32 → SY → Prop} {c : Nat} (h : c < 4) (ht : t < 24) (hp : post (nI (t + 1)) (nI s, nI (t + 1), fun j => nI (w j), fun j => nI (if j = t then c else tg j), a_best)) : wpY_target post (nI s, nI t, fun j => nI (w j), fun j => nI (tg j), a_best) (nI c) := by
  unfold wpY_target
  have es : (nI t).toNatClampNeg = t := nI_clamp (by omega)
  refine cl_yg h (br_f (by decide) (pk_eq t 24 (fun z => by omega) (fun _ => ⟨pk_in t 24 ht, nm_r (e' := fun j => nI (if j = t then c else tg j)) (by rw [es, cl_upd]) (nm_r (nI_1 t) hp)⟩)))
theorem cl_tgt_xb {post : Int32 → SX → Prop} {u : SX} {x : Int32} (h : x < 0 ∨ ¬ x ≤ 3) (hp : post (-1) u) : wpX_target post u x := by
  obtain ⟨f_s, f_t, f_states, f_whole, f_counted, f_stateAt, a_target, a_length, a_shorter, a_firstEnd, a_next, a_copied, a_places, a_gap, a_cost, a_letters⟩ := u
  unfold wpX_target
  exact cl_xb h (br_f (by decide) hp)
theorem cl_tgt_xf {post : Int32 → SX → Prop} {u : SX} (R : sx_R s t w tg u) {c : Nat} (h : c < 4) (ht : t = 24) (hp : post (-2) u) : wpX_target post u (nI c) := by
  obtain ⟨f_s, f_t, f_states, f_whole, f_counted, f_stateAt, a_target, a_length, a_shorter, a_firstEnd, a_next, a_copied, a_places, a_gap, a_cost, a_letters⟩ := u
  obtain ⟨rfl, rfl, rfl, rfl, hA⟩ := R
  unfold wpX_target
  subst ht
  exact cl_xg h (br_t rfl (br_t rfl hp))
theorem cl_tgt_xk {post : Int32 → SX → Prop} {u : SX} (R : sx_R s t w tg u) {c : Nat} (h : c < 4) (ht : t < 24) (hp : ∀ u', sx_R s (t + 1) w (fun j => if j = t then c else tg j) u' → post (nI (t + 1)) u') : wpX_target post u (nI c) := by
  obtain ⟨f_s, f_t, f_states, f_whole, f_counted, f_stateAt, a_target, a_length, a_shorter, a_firstEnd, a_next, a_copied, a_places, a_gap, a_cost, a_letters⟩ := u
  obtain ⟨rfl, rfl, rfl, rfl, hA⟩ := R
  have es : (nI t).toNatClampNeg = t := nI_clamp (by omega)
  unfold wpX_target
  refine cl_xg h (br_t rfl (pk_eq t 24 (fun z => by omega) (fun _ => ⟨pk_in t 24 ht, nm_r (e' := fun j => nI (if j = t then c else tg j)) (by rw [es, cl_upd]) (nm_r (nI_1 t) (hp _ ⟨rfl, rfl, rfl, rfl, hA⟩))⟩)))
/-- the target with m letters of the source from place k on behind its t letters -/
def cl_q (w tg : Nat → Nat) (t k : Nat) : Nat → Nat → Nat
  | 0 => tg
  | m + 1 => fun j => if j = t + m then w (k + m) else cl_q w tg t k m j
theorem cl_q_lt (hw : ∀ j, w j < 4) (htg : ∀ j, tg j < 4) (k : Nat) : ∀ m j, cl_q w tg t k m j < 4
  | 0, j => htg j
  | m + 1, j => cl_lt (cl_q_lt hw htg k m) (hw (k + m)) j
theorem cl_quo_y {post : Int32 → SY → Prop} (D : sx_D s t w tg) {k n : Nat} (hk : k + n ≤ s) (hn : t + n ≤ 24) (hp : post (nI (t + n)) (nI s, nI (t + n), fun j => nI (w j), fun j => nI (cl_q w tg t k n j), a_best)) :
    ∀ d m f, m + d = n → d < f → wY_quote_44 post (nI k) (nI n) (nI s) f (nI m) (nI (t + m)) (fun j => nI (w j)) (fun j => nI (cl_q w tg t k m j)) a_best := by
  have hs := D.1
  intro d
  induction d with
  | zero =>
    intro m f hm hf
    obtain ⟨f, rfl⟩ : ∃ q, f = q + 1 := ⟨f - 1, by omega⟩
    have e : m = n := by omega
    subst e
    exact pk_le m m (fun _ => hp) (fun z => by omega)
  | succ d ih =>
    intro m f hm hf
    obtain ⟨f, rfl⟩ : ∃ q, f = q + 1 := ⟨f - 1, by omega⟩
    have e1 : (nI k + nI m).toNatClampNeg = k + m := pk_cl (k + m) (nI_add k m)
    have e2 : (nI (t + m)).toNatClampNeg = t + m := nI_clamp (by omega)
    refine pk_le n m (fun z => by omega) (fun _ => ⟨pk_in (k + m) 32 (by omega) (nI_add k m), pk_in (t + m) 24 (by omega), nm_r (e' := fun j => nI (cl_q w tg t k (m + 1) j)) (by rw [e1, e2, cl_upd]; rfl) (nm_r (nI_1 (t + m)) (nm_r (nI_1 m) (ih (m + 1) f (by omega) (by omega))))⟩)
section
variable {f_s f_t f_states f_whole f_counted f_stateAt : Int32} {a_target a_length a_shorter a_firstEnd a_next a_copied a_places a_gap a_cost a_letters : Nat → Int32}
theorem cl_quo_x {post : Int32 → SX → Prop} (D : sx_D s t w tg) {k n : Nat} (hk : k + n ≤ s) (hn : t + n ≤ 24) (hp : post (nI (t + n)) (nI s, nI (t + n), f_states, f_whole, f_counted, f_stateAt, fun j => nI (cl_q w tg t k n j), a_length, a_shorter, a_firstEnd, a_next, a_copied, a_places, a_gap, a_cost, fun j => nI (w j))) :
    ∀ d m f, m + d = n → d < f → wX_quote_44 post (nI k) (nI n) (nI s) (nI t) f_states f_whole f_counted f_stateAt f (nI m) (fun j => nI (cl_q w tg t k m j)) a_length a_shorter a_firstEnd a_next a_copied a_places a_gap a_cost (fun j => nI (w j)) := by
  have hs := D.1
  intro d
  induction d with
  | zero =>
    intro m f hm hf
    obtain ⟨f, rfl⟩ : ∃ q, f = q + 1 := ⟨f - 1, by omega⟩
    have e : m = n := by omega
    subst e
    exact pk_le m m (fun _ => nm_r (nI_add t m) hp) (fun z => by omega)
  | succ d ih =>
    intro m f hm hf
    obtain ⟨f, rfl⟩ : ∃ q, f = q + 1 := ⟨f - 1, by omega⟩
    have e1 : (nI k + nI m).toNatClampNeg = k + m := pk_cl (k + m) (nI_add k m)
    have e2 : (nI t + nI m).toNatClampNeg = t + m := pk_cl (t + m) (nI_add t m)
    refine pk_le n m (fun z => by omega) (fun _ => ⟨pk_in (k + m) 32 (by omega) (nI_add k m), pk_in (t + m) 24 (by omega) (nI_add t m), nm_r (e' := fun j => nI (cl_q w tg t k (m + 1) j)) (by rw [e1, e2, cl_upd]; rfl) (nm_r (nI_1 m) (ih (m + 1) f (by omega) (by omega)))⟩)
end
/-- the source with the target's first m letters behind it -/
def cl_a (w tg : Nat → Nat) (s : Nat) : Nat → Nat → Nat
  | 0 => w
  | m + 1 => fun j => if j = s + m then tg m else cl_a w tg s m j
theorem cl_a_lt (hw : ∀ j, w j < 4) (htg : ∀ j, tg j < 4) : ∀ m j, cl_a w tg s m j < 4
  | 0, j => hw j
  | m + 1, j => cl_lt (cl_a_lt hw htg m) (htg m) j
theorem cl_acc_y {post : Int32 → SY → Prop} (D : sx_D s t w tg) (hst : s + t ≤ 32) (hp : post (nI (s + t)) (nI (s + t), 0, fun j => nI (cl_a w tg s t j), fun j => nI (tg j), a_best)) :
    ∀ d m f, m + d = t → d < f → wY_accept_19 post (nI t) f (nI m) (nI (s + m)) (fun j => nI (cl_a w tg s m j)) (fun j => nI (tg j)) a_best := by
  have ht := D.2.1
  intro d
  induction d with
  | zero =>
    intro m f hm hf
    obtain ⟨f, rfl⟩ : ∃ q, f = q + 1 := ⟨f - 1, by omega⟩
    have e : m = t := by omega
    subst e
    exact pk_le m m (fun _ => hp) (fun z => by omega)
  | succ d ih =>
    intro m f hm hf
    obtain ⟨f, rfl⟩ : ∃ q, f = q + 1 := ⟨f - 1, by omega⟩
    have e1 : (nI m).toNatClampNeg = m := nI_clamp (by omega)
    have e2 : (nI (s + m)).toNatClampNeg = s + m := nI_clamp (by omega)
    refine pk_le t m (fun z => by omega) (fun _ => ⟨pk_in m 24 (by omega), pk_in (s + m) 32 (by omega), nm_r (e' := fun j => nI (cl_a w tg s (m + 1) j)) (by rw [e1, e2, cl_upd]; rfl) (nm_r (nI_1 (s + m)) (nm_r (nI_1 m) (ih (m + 1) f (by omega) (by omega))))⟩)
theorem cl_acc_x {post : Int32 → SX → Prop} (D : sx_D s t w tg) (hst : s + t ≤ 32) (hp : ∀ u', sx_R (s + t) 0 (cl_a w tg s t) tg u' → post (nI (s + t)) u') :
    ∀ d m f f_s f_t f_states f_whole f_counted f_stateAt a_target a_length a_shorter a_firstEnd a_next a_copied a_places a_gap a_cost a_letters, m + d = t → d < f → sx_R (s + m) t (cl_a w tg s m) tg (f_s, f_t, f_states, f_whole, f_counted, f_stateAt, a_target, a_length, a_shorter, a_firstEnd, a_next, a_copied, a_places, a_gap, a_cost, a_letters) → wX_accept_19 post f (nI m) f_s f_t f_states f_whole f_counted f_stateAt a_target a_length a_shorter a_firstEnd a_next a_copied a_places a_gap a_cost a_letters := by
  obtain ⟨hs, ht, hw, htg⟩ := D
  intro d
  induction d with
  | zero =>
    intro m f f_s f_t f_states f_whole f_counted f_stateAt a_target a_length a_shorter a_firstEnd a_next a_copied a_places a_gap a_cost a_letters hm hf R
    obtain ⟨f, rfl⟩ : ∃ q, f = q + 1 := ⟨f - 1, by omega⟩
    obtain ⟨rfl, rfl, rfl, rfl, hA⟩ := R
    have e : m = t := by omega
    subst e
    exact pk_le m m (fun _ => hp _ ⟨rfl, rfl, rfl, rfl, hA⟩) (fun z => by omega)
  | succ d ih =>
    intro m f f_s f_t f_states f_whole f_counted f_stateAt a_target a_length a_shorter a_firstEnd a_next a_copied a_places a_gap a_cost a_letters hm hf R
    obtain ⟨f, rfl⟩ : ∃ q, f = q + 1 := ⟨f - 1, by omega⟩
    have R' := R
    obtain ⟨rfl, rfl, rfl, rfl, hA⟩ := R'
    have e1 : (nI m).toNatClampNeg = m := nI_clamp (by omega)
    refine pk_le t m (fun z => by omega) (fun _ => ⟨pk_in m 24 (by omega), ?_⟩)
    rw [e1]
    refine xg_grow R (by omega) (cl_a_lt hw htg m) (htg m) ?_
    rintro ⟨f_s, f_t, f_states, f_whole, f_counted, f_stateAt, a_target, a_length, a_shorter, a_firstEnd, a_next, a_copied, a_places, a_gap, a_cost, a_letters⟩ R2
    exact nm_r (nI_1 m) (ih (m + 1) f f_s f_t f_states f_whole f_counted f_stateAt a_target a_length a_shorter a_firstEnd a_next a_copied a_places a_gap a_cost a_letters (by omega) (by omega) R2)
end
end
section
/-! the calls that tell of pieces -/
section
variable {s t : Nat} {w tg : Nat → Nat} {a_best : Nat → Int32}
theorem pc_sg (w tg : Nat → Nat) (s t i : Nat) {Q : Int32 → Prop} (h : Q (nI (wd_sg w tg s t i))) (hl : wd_lf w tg s t i < 2 ^ 31) : (nI (wd_lf w tg s t i) = 0 → Q 1) ∧ (¬ nI (wd_lf w tg s t i) = 0 → Q (nI (wd_lf w tg s t i))) := by
  refine ⟨fun x => ?_, fun x => ?_⟩
  · rw [yi_z hl] at x
    have e : wd_sg w tg s t i = 1 := by unfold wd_sg; rw [if_pos x]
    rw [e] at h
    exact h
  · rw [yi_z hl] at x
    have e : wd_sg w tg s t i = wd_lf w tg s t i := by unfold wd_sg; rw [if_neg x]
    rw [e] at h
    exact h
theorem pc_lenX {post : Int32 → SX → Prop} (D : sx_D s t w tg) {u : SX} (R : sx_R s t w tg u) {p : Nat} (hp31 : p < 2 ^ 31) (h0 : t ≤ wd_bg w tg s t p → ∀ u', sx_R s t w tg u' → post (-4) u')
    (h1 : wd_bg w tg s t p < t → ∀ u', sx_R s t w tg u' → post (nI (wd_sg w tg s t (wd_bg w tg s t p))) u') : wpX_pieceLength post u (nI p) := by
  have ht := D.2.1
  obtain ⟨f_s, f_t, f_states, f_whole, f_counted, f_stateAt, a_target, a_length, a_shorter, a_firstEnd, a_next, a_copied, a_places, a_gap, a_cost, a_letters⟩ := u
  refine br_t (nI_pos' hp31) (xq_begin D R hp31 ?_)
  rintro ⟨f_s, f_t, f_states, f_whole, f_counted, f_stateAt, a_target, a_length, a_shorter, a_firstEnd, a_next, a_copied, a_places, a_gap, a_cost, a_letters⟩ R2
  have b := wd_bg_le w tg s t p
  have R3 := R2
  obtain ⟨rfl, rfl, rfl, rfl, hA⟩ := R3
  refine pk_lt (wd_bg w tg s t p) t (fun y => ?_) (fun y => h0 y _ R2)
  refine xq_long D R2 b ?_
  rintro ⟨f_s, f_t, f_states, f_whole, f_counted, f_stateAt, a_target, a_length, a_shorter, a_firstEnd, a_next, a_copied, a_places, a_gap, a_cost, a_letters⟩ R4
  have l := wd_lf_le w tg s t (wd_bg w tg s t p)
  exact pc_sg w tg s t (wd_bg w tg s t p) (Q := fun r => post r (f_s, f_t, f_states, f_whole, f_counted, f_stateAt, a_target, a_length, a_shorter, a_firstEnd, a_next, a_copied, a_places, a_gap, a_cost, a_letters)) (h1 y _ R4) (by omega)
theorem pc_lenY {post : Int32 → Prop} (D : sx_D s t w tg) {p : Nat} (hp31 : p < 2 ^ 31) (h0 : t ≤ wd_bg w tg s t p → post (-4)) (h1 : wd_bg w tg s t p < t → post (nI (wd_sg w tg s t (wd_bg w tg s t p)))) : wpY_pieceLength post (nI s, nI t, fun j => nI (w j), fun j => nI (tg j), a_best) (nI p) := by
  have ht := D.2.1
  have b := wd_bg_le w tg s t p
  unfold wpY_pieceLength
  refine ys_begin D hp31 (br_f (nI_pos hp31) (pk_lt (wd_bg w tg s t p) t (fun y => ys_long D b ?_) (fun y => h0 y)))
  have l := wd_lf_le w tg s t (wd_bg w tg s t p)
  exact pc_sg w tg s t (wd_bg w tg s t p) (Q := post) (h1 y) (by omega)
theorem pc_at {a b : Nat} (h : 1 ≤ b) : nI (a + b - 1) - nI b + 1 = nI a := by
  have e : nI (a + b - 1) + 1 = nI (a + b) := by rw [nI_1, show a + b - 1 + 1 = a + b from by omega]
  have f : nI (a + b) - nI b = nI a := by rw [pk_sub (by omega), Nat.add_sub_cancel]
  rw [← f, ← e]
  grind
theorem pc_frX {post : Int32 → SX → Prop} (D : sx_D s t w tg) {u : SX} (R : sx_R s t w tg u) {p : Nat} (hp31 : p < 2 ^ 31) (h0 : t ≤ wd_bg w tg s t p → ∀ u', sx_R s t w tg u' → post (-4) u')
    (h1 : wd_bg w tg s t p < t → wd_lf w tg s t (wd_bg w tg s t p) = 0 → ∀ u', sx_R s t w tg u' → post (-4) u')
    (h2 : wd_bg w tg s t p < t → wd_lf w tg s t (wd_bg w tg s t p) ≠ 0 → ∀ k u', k + wd_lf w tg s t (wd_bg w tg s t p) ≤ s → wd_st w tg k (wd_bg w tg s t p) (wd_lf w tg s t (wd_bg w tg s t p)) → (∀ j, j < k → ¬ wd_st w tg j (wd_bg w tg s t p) (wd_lf w tg s t (wd_bg w tg s t p))) → sx_R s t w tg u' → post (nI k) u') :
    wpX_pieceFrom post u (nI p) := by
  have ht := D.2.1
  obtain ⟨f_s, f_t, f_states, f_whole, f_counted, f_stateAt, a_target, a_length, a_shorter, a_firstEnd, a_next, a_copied, a_places, a_gap, a_cost, a_letters⟩ := u
  refine br_t (nI_pos' hp31) (xq_begin D R hp31 ?_)
  rintro ⟨f_s, f_t, f_states, f_whole, f_counted, f_stateAt, a_target, a_length, a_shorter, a_firstEnd, a_next, a_copied, a_places, a_gap, a_cost, a_letters⟩ R2
  have b := wd_bg_le w tg s t p
  have l := wd_lf_le w tg s t (wd_bg w tg s t p)
  have R3 := R2
  obtain ⟨rfl, rfl, rfl, rfl, hA⟩ := R3
  refine pk_lt (wd_bg w tg s t p) t (fun y => ?_) (fun y => h0 y _ R2)
  refine xq_longF D R2 b ?_
  intro f_states f_whole f_counted f_stateAt a_length a_shorter a_firstEnd a_next a_copied a_places a_gap a_cost hA2 hq
  refine pk_eq (wd_lf w tg s t (wd_bg w tg s t p)) 0 (fun z => h1 y z _ ⟨rfl, rfl, rfl, rfl, hA2⟩) (fun z => ?_)
  obtain ⟨q, k, rfl, q1, q2, q3, q4, q5⟩ := hq z
  refine ⟨pk_in q 65 q1, ?_⟩
  rw [nI_clamp (show q < 2 ^ 31 by omega), q2, pc_at (by omega)]
  exact h2 y z k _ q3 q4 q5 ⟨rfl, rfl, rfl, rfl, hA2⟩
theorem pc_frY {post : Int32 → Prop} (D : sx_D s t w tg) {p : Nat} (hp31 : p < 2 ^ 31) (h0 : t ≤ wd_bg w tg s t p → post (-4)) (h1 : wd_bg w tg s t p < t → wd_lf w tg s t (wd_bg w tg s t p) = 0 → post (-4))
    (h2 : wd_bg w tg s t p < t → wd_lf w tg s t (wd_bg w tg s t p) ≠ 0 → ∀ k, k + wd_lf w tg s t (wd_bg w tg s t p) ≤ s → wd_st w tg k (wd_bg w tg s t p) (wd_lf w tg s t (wd_bg w tg s t p)) → (∀ j, j < k → ¬ wd_st w tg j (wd_bg w tg s t p) (wd_lf w tg s t (wd_bg w tg s t p))) → post (nI k)) :
    wpY_pieceFrom post (nI s, nI t, fun j => nI (w j), fun j => nI (tg j), a_best) (nI p) := by
  have ht := D.2.1
  have b := wd_bg_le w tg s t p
  have l := wd_lf_le w tg s t (wd_bg w tg s t p)
  unfold wpY_pieceFrom
  refine ys_begin D hp31 (br_f (nI_pos hp31) (pk_lt (wd_bg w tg s t p) t (fun y => ys_long D b ?_) (fun y => h0 y)))
  refine pk_eq (wd_lf w tg s t (wd_bg w tg s t p)) 0 (fun z => h1 y z) (fun z => ys_place D (by omega) (fun k k1 k2 k3 => h2 y z k k1 k2 k3) (fun hF => absurd (wd_lf_F w tg s t _) hF))
end
end
section
/-! what is owed -/
theorem i_up {k : Nat} {u : SX} {v : SY} (h : i_Rel k u v) : i_Rel (k + 3) u v := h
theorem i_vc0 : wpX_init (fun u => wpY_init (fun v => i_Rel 0 u v)) := by
  unfold wpX_init
  refine xq_reset (w := fun _ => 0) (tg := fun _ => 0) (t := 0) (fun _ => by decide) rfl rfl rfl ?_
  rintro ⟨f_s, f_t, f_states, f_whole, f_counted, f_stateAt, a_target, a_length, a_shorter, a_firstEnd, a_next, a_copied, a_places, a_gap, a_cost, a_letters⟩ R
  exact ⟨0, 0, fun _ => 0, fun _ => 0, fun _ => 0, ⟨by decide, by decide, fun _ => (by decide : 0 < 4), fun _ => (by decide : 0 < 4)⟩, R, rfl⟩
theorem i_vc_source {k : Nat} {u : SX} {v : SY} (I : i_Rel k u v) (hk : k + 3 ≤ 1536) (v1 : Int32) : wpX_source (fun r u' => wpY_source (fun r' v' => r' = r ∧ i_Rel (k + 3) u' v') v v1) u v1 := by
  obtain ⟨s, t, w, tg, a_best, D, R, rfl⟩ := I
  rcases cl_cases v1 with h | ⟨c, hc, rfl⟩
  · exact cl_src_xb h (cl_src_yb h ⟨rfl, s, t, w, tg, a_best, D, R, rfl⟩)
  · by_cases hs : s = 32
    · exact cl_src_xf R hc hs (cl_src_yf hc hs ⟨rfl, s, t, w, tg, a_best, D, R, rfl⟩)
    · have h := D.1
      exact cl_src_xk R hc D.2.2.1 (by omega) (fun u' R' => cl_src_yk hc (by omega) ⟨rfl, s + 1, t, fun j => if j = s then c else w j, tg, a_best, ⟨by omega, D.2.1, cl_lt D.2.2.1 hc, D.2.2.2⟩, R', rfl⟩)
theorem i_vc_target {k : Nat} {u : SX} {v : SY} (I : i_Rel k u v) (hk : k + 3 ≤ 1536) (v1 : Int32) : wpX_target (fun r u' => wpY_target (fun r' v' => r' = r ∧ i_Rel (k + 3) u' v') v v1) u v1 := by
  obtain ⟨s, t, w, tg, a_best, D, R, rfl⟩ := I
  rcases cl_cases v1 with h | ⟨c, hc, rfl⟩
  · exact cl_tgt_xb h (cl_tgt_yb h ⟨rfl, s, t, w, tg, a_best, D, R, rfl⟩)
  · by_cases ht : t = 24
    · exact cl_tgt_xf R hc ht (cl_tgt_yf hc ht ⟨rfl, s, t, w, tg, a_best, D, R, rfl⟩)
    · have h := D.2.1
      exact cl_tgt_xk R hc (by omega) (fun u' R' => cl_tgt_yk hc (by omega) ⟨rfl, s, t + 1, w, fun j => if j = t then c else tg j, a_best, ⟨D.1, by omega, D.2.2.1, cl_lt D.2.2.2 hc⟩, R', rfl⟩)
theorem i_vc_quote {k : Nat} {u : SX} {v : SY} (I : i_Rel k u v) (hk : k + 3 ≤ 1536) (v1 : Int32) (v2 : Int32) : wpX_quote (fun r u' => wpY_quote (fun r' v' => r' = r ∧ i_Rel (k + 3) u' v') v v1 v2) u v1 v2 := by
  obtain ⟨s, t, w, tg, a_best, D, R, rfl⟩ := I
  obtain ⟨f_s, f_t, f_states, f_whole, f_counted, f_stateAt, a_target, a_length, a_shorter, a_firstEnd, a_next, a_copied, a_places, a_gap, a_cost, a_letters⟩ := u
  have R' := R
  obtain ⟨rfl, rfl, rfl, rfl, hA⟩ := R'
  have rel : i_Rel (k + 3) (nI s, nI t, f_states, f_whole, f_counted, f_stateAt, fun j => nI (tg j), a_length, a_shorter, a_firstEnd, a_next, a_copied, a_places, a_gap, a_cost, fun j => nI (w j)) (nI s, nI t, fun j => nI (w j), fun j => nI (tg j), a_best) := ⟨s, t, w, tg, a_best, D, R, rfl⟩
  have hs := D.1
  have ht := D.2.1
  by_cases h0 : v1 < 0
  · exact br_t h0 (br_t h0 ⟨rfl, rel⟩)
  by_cases h1 : v2 < 0
  · exact br_f h0 (br_t h1 (br_f h0 (br_t h1 ⟨rfl, rel⟩)))
  by_cases h2 : nI s < v1
  · exact br_f h0 (br_f h1 (br_t h2 (br_f h0 (br_f h1 (br_t h2 ⟨rfl, rel⟩)))))
  by_cases h3 : v2 ≤ nI s - v1
  · by_cases h4 : nI t + v2 ≤ 24
    · obtain ⟨a, ha, rfl⟩ := nI_of h0
      obtain ⟨n, hn, rfl⟩ := nI_of h1
      have a2 : a ≤ s := by
        rw [nI_ltI (by omega) ha] at h2
        omega
      have a3 : n ≤ s - a := by
        have h3' := h3
        rw [pk_sub a2, nI_leI hn (by omega)] at h3'
        exact h3'
      have a4 : t + n ≤ 24 := by
        have h4' := h4
        rw [nI_add, show (24 : Int32) = nI 24 from rfl, nI_leI (by omega) (by omega)] at h4'
        exact h4'
      refine br_f h0 (br_f h1 (br_f h2 (br_t h3 (br_t h4 ⟨n + 1, ?_⟩))))
      refine cl_quo_x D (by omega) a4 ?_ n 0 (n + 1) (by omega) (by omega)
      refine br_f h0 (br_f h1 (br_f h2 (br_t h3 (br_t h4 ⟨n + 1, ?_⟩))))
      refine cl_quo_y D (by omega) a4 ?_ n 0 (n + 1) (by omega) (by omega)
      exact ⟨rfl, s, t + n, w, cl_q w tg t a n, a_best, ⟨hs, a4, D.2.2.1, cl_q_lt D.2.2.1 D.2.2.2 a n⟩, ⟨rfl, rfl, rfl, rfl, hA⟩, rfl⟩
    · exact br_f h0 (br_f h1 (br_f h2 (br_t h3 (br_f h4 (br_f h0 (br_f h1 (br_f h2 (br_t h3 (br_f h4 ⟨rfl, rel⟩)))))))))
  · exact br_f h0 (br_f h1 (br_f h2 (br_f h3 (br_f h0 (br_f h1 (br_f h2 (br_f h3 ⟨rfl, rel⟩)))))))
theorem i_vc_change {k : Nat} {u : SX} {v : SY} (I : i_Rel k u v) (hk : k + 3 ≤ 1536) (v1 : Int32) (v2 : Int32) : wpX_change (fun r u' => wpY_change (fun r' v' => r' = r ∧ i_Rel (k + 3) u' v') v v1 v2) u v1 v2 := by
  obtain ⟨s, t, w, tg, a_best, D, R, rfl⟩ := I
  obtain ⟨f_s, f_t, f_states, f_whole, f_counted, f_stateAt, a_target, a_length, a_shorter, a_firstEnd, a_next, a_copied, a_places, a_gap, a_cost, a_letters⟩ := u
  have R' := R
  obtain ⟨rfl, rfl, rfl, rfl, hA⟩ := R'
  have rel : i_Rel (k + 3) (nI s, nI t, f_states, f_whole, f_counted, f_stateAt, fun j => nI (tg j), a_length, a_shorter, a_firstEnd, a_next, a_copied, a_places, a_gap, a_cost, fun j => nI (w j)) (nI s, nI t, fun j => nI (w j), fun j => nI (tg j), a_best) := ⟨s, t, w, tg, a_best, D, R, rfl⟩
  have hs := D.1
  have ht := D.2.1
  by_cases h0 : v1 < 0
  · exact br_t h0 (br_t h0 ⟨rfl, rel⟩)
  by_cases h1 : nI t ≤ v1
  · exact br_f h0 (br_t h1 (br_f h0 (br_t h1 ⟨rfl, rel⟩)))
  rcases cl_cases v2 with h | ⟨c, hc, rfl⟩
  · exact br_f h0 (br_f h1 (cl_xb h (br_f (by decide) (br_f h0 (br_f h1 (cl_yb h (br_t rfl ⟨rfl, rel⟩)))))))
  · obtain ⟨i, hi, rfl⟩ := nI_of h0
    have it : i < t := by
      have h1' := h1
      rw [nI_leI (by omega) hi] at h1'
      omega
    have ei : (nI i).toNatClampNeg = i := nI_clamp hi
    refine br_f h0 (br_f h1 (cl_xg hc (br_t rfl ⟨pk_in i 24 (by omega), nm_r (e' := nI (tg i)) (by rw [ei]) ⟨pk_in i 24 (by omega), nm_r (e' := fun j => nI (if j = i then c else tg j)) (by rw [ei, cl_upd]) ?_⟩⟩)))
    refine br_f h0 (br_f h1 (cl_yg hc (br_f (by decide) ⟨pk_in i 24 (by omega), nm_r (e' := nI (tg i)) (by rw [ei]) ⟨pk_in i 24 (by omega), nm_r (e' := fun j => nI (if j = i then c else tg j)) (by rw [ei, cl_upd]) ?_⟩⟩)))
    exact ⟨rfl, s, t, w, fun j => if j = i then c else tg j, a_best, ⟨hs, ht, D.2.2.1, cl_lt D.2.2.2 hc⟩, ⟨rfl, rfl, rfl, rfl, hA⟩, rfl⟩
theorem i_vc_accept {k : Nat} {u : SX} {v : SY} (I : i_Rel k u v) (hk : k + 3 ≤ 1536) : wpX_accept (fun r u' => wpY_accept (fun r' v' => r' = r ∧ i_Rel (k + 3) u' v') v) u := by
  obtain ⟨s, t, w, tg, a_best, D, R, rfl⟩ := I
  obtain ⟨f_s, f_t, f_states, f_whole, f_counted, f_stateAt, a_target, a_length, a_shorter, a_firstEnd, a_next, a_copied, a_places, a_gap, a_cost, a_letters⟩ := u
  have R' := R
  obtain ⟨rfl, rfl, rfl, rfl, hA⟩ := R'
  have rel : i_Rel (k + 3) (nI s, nI t, f_states, f_whole, f_counted, f_stateAt, fun j => nI (tg j), a_length, a_shorter, a_firstEnd, a_next, a_copied, a_places, a_gap, a_cost, fun j => nI (w j)) (nI s, nI t, fun j => nI (w j), fun j => nI (tg j), a_best) := ⟨s, t, w, tg, a_best, D, R, rfl⟩
  have hs := D.1
  have ht := D.2.1
  by_cases h : s + t ≤ 32
  · have h' : nI s + nI t ≤ 32 := by
      rw [nI_add]
      exact nI_le (b := 32) h (by omega)
    refine br_t h' ⟨t + 1, ?_⟩
    refine cl_acc_x D h (fun u' R2 => ?_) t 0 (t + 1) _ _ _ _ _ _ _ _ _ _ _ _ _ _ _ _ (by omega) (by omega) R
    refine br_t h' ⟨t + 1, ?_⟩
    refine cl_acc_y D h ?_ t 0 (t + 1) (by omega) (by omega)
    exact ⟨rfl, s + t, 0, cl_a w tg s t, tg, a_best, ⟨h, by omega, cl_a_lt D.2.2.1 D.2.2.2 t, D.2.2.2⟩, R2, rfl⟩
  · have h' : ¬ nI s + nI t ≤ 32 := by
      rw [nI_add]
      exact nI_ge (a := 32) (by omega) (by omega)
    exact br_f h' (br_f h' ⟨rfl, rel⟩)
theorem i_vc_clearSource {k : Nat} {u : SX} {v : SY} (I : i_Rel k u v) (hk : k + 3 ≤ 1536) : wpX_clearSource (fun u' => wpY_clearSource (fun v' => i_Rel (k + 3) u' v') v) u := by
  obtain ⟨s, t, w, tg, a_best, D, R, rfl⟩ := I
  obtain ⟨f_s, f_t, f_states, f_whole, f_counted, f_stateAt, a_target, a_length, a_shorter, a_firstEnd, a_next, a_copied, a_places, a_gap, a_cost, a_letters⟩ := u
  obtain ⟨rfl, rfl, rfl, rfl, hA⟩ := R
  unfold wpX_clearSource
  refine xq_reset (w := w) (tg := tg) (t := t) D.2.2.1 rfl rfl rfl ?_
  rintro ⟨f_s, f_t, f_states, f_whole, f_counted, f_stateAt, a_target, a_length, a_shorter, a_firstEnd, a_next, a_copied, a_places, a_gap, a_cost, a_letters⟩ R2
  exact ⟨0, t, w, tg, a_best, ⟨by omega, D.2.1, D.2.2.1, D.2.2.2⟩, R2, rfl⟩
theorem i_vc_clearTarget {k : Nat} {u : SX} {v : SY} (I : i_Rel k u v) (hk : k + 3 ≤ 1536) : wpX_clearTarget (fun u' => wpY_clearTarget (fun v' => i_Rel (k + 3) u' v') v) u := by
  obtain ⟨s, t, w, tg, a_best, D, R, rfl⟩ := I
  obtain ⟨f_s, f_t, f_states, f_whole, f_counted, f_stateAt, a_target, a_length, a_shorter, a_firstEnd, a_next, a_copied, a_places, a_gap, a_cost, a_letters⟩ := u
  obtain ⟨rfl, rfl, rfl, rfl, hA⟩ := R
  exact ⟨s, 0, w, tg, a_best, ⟨D.1, by omega, D.2.2.1, D.2.2.2⟩, ⟨rfl, rfl, rfl, rfl, hA⟩, rfl⟩
theorem i_vc_lengths {k : Nat} {u : SX} {v : SY} (I : i_Rel k u v) (hk : k + 3 ≤ 1536) : wpX_lengths (fun r => wpY_lengths (fun r' => r' = r ∧ i_Rel (k + 3) u v) v) u := by
  have I' := I
  obtain ⟨s, t, w, tg, a_best, D, R, rfl⟩ := I'
  obtain ⟨f_s, f_t, f_states, f_whole, f_counted, f_stateAt, a_target, a_length, a_shorter, a_firstEnd, a_next, a_copied, a_places, a_gap, a_cost, a_letters⟩ := u
  have R' := R
  obtain ⟨rfl, rfl, rfl, rfl, hA⟩ := R'
  exact ⟨rfl, I⟩
theorem i_vc_pieces {k : Nat} {u : SX} {v : SY} (I : i_Rel k u v) (hk : k + 3 ≤ 1536) : wpX_pieces (fun r u' => wpY_pieces (fun r' => r' = r ∧ i_Rel (k + 3) u' v) v) u := by
  obtain ⟨s, t, w, tg, a_best, D, R, rfl⟩ := I
  obtain ⟨r, hr, h1, h2⟩ := wd_pc w tg s t D.2.1
  exact xq_pieces D R hr h1 h2 (fun u' R' => ys_pieces D hr h1 h2 ⟨rfl, s, t, w, tg, a_best, D, R', rfl⟩)
theorem i_vc_pieceLength {k : Nat} {u : SX} {v : SY} (I : i_Rel k u v) (hk : k + 3 ≤ 1536) (v1 : Int32) : wpX_pieceLength (fun r u' => wpY_pieceLength (fun r' => r' = r ∧ i_Rel (k + 3) u' v) v v1) u v1 := by
  obtain ⟨s, t, w, tg, a_best, D, R, rfl⟩ := I
  by_cases h : v1 < 0
  · obtain ⟨f_s, f_t, f_states, f_whole, f_counted, f_stateAt, a_target, a_length, a_shorter, a_firstEnd, a_next, a_copied, a_places, a_gap, a_cost, a_letters⟩ := u
    refine br_f (Int32.not_le.mpr h) ?_
    unfold wpY_pieceLength
    exact ys_begN h (br_t h ⟨rfl, s, t, w, tg, a_best, D, R, rfl⟩)
  · obtain ⟨p, hp, rfl⟩ := nI_of h
    exact pc_lenX D R hp (fun y u' R' => pc_lenY D hp (fun _ => ⟨rfl, s, t, w, tg, a_best, D, R', rfl⟩) (fun z => by omega)) (fun y u' R' => pc_lenY D hp (fun z => by omega) (fun _ => ⟨rfl, s, t, w, tg, a_best, D, R', rfl⟩))
theorem i_vc_pieceFrom {k : Nat} {u : SX} {v : SY} (I : i_Rel k u v) (hk : k + 3 ≤ 1536) (v1 : Int32) : wpX_pieceFrom (fun r u' => wpY_pieceFrom (fun r' => r' = r ∧ i_Rel (k + 3) u' v) v v1) u v1 := by
  obtain ⟨s, t, w, tg, a_best, D, R, rfl⟩ := I
  by_cases h : v1 < 0
  · obtain ⟨f_s, f_t, f_states, f_whole, f_counted, f_stateAt, a_target, a_length, a_shorter, a_firstEnd, a_next, a_copied, a_places, a_gap, a_cost, a_letters⟩ := u
    refine br_f (Int32.not_le.mpr h) ?_
    unfold wpY_pieceFrom
    exact ys_begN h (br_t h ⟨rfl, s, t, w, tg, a_best, D, R, rfl⟩)
  · obtain ⟨p, hp, rfl⟩ := nI_of h
    refine pc_frX D R hp (fun y u' R' => ?_) (fun y l u' R' => ?_) (fun y l q u' q1 q2 q3 R' => ?_)
    · exact pc_frY D hp (fun _ => ⟨rfl, s, t, w, tg, a_best, D, R', rfl⟩) (fun z => by omega) (fun z => by omega)
    · exact pc_frY D hp (fun z => by omega) (fun _ _ => ⟨rfl, s, t, w, tg, a_best, D, R', rfl⟩) (fun _ z => absurd l z)
    · refine pc_frY D hp (fun z => by omega) (fun _ z => absurd z l) (fun _ _ x x1 x2 x3 => ⟨?_, s, t, w, tg, a_best, D, R', rfl⟩)
      have a : ¬ x < q := fun z => q3 x z x2
      have b : ¬ q < x := fun z => x3 q z q2
      rw [show x = q from by omega]
theorem i_vc_fewest {k : Nat} {u : SX} {v : SY} (I : i_Rel k u v) (hk : k + 3 ≤ 1536) : wpX_fewest (fun r u' => wpY_fewest (fun r' v' => r' = r ∧ i_Rel (k + 3) u' v') v) u := by
  obtain ⟨s, t, w, tg, a_best, D, R, rfl⟩ := I
  obtain ⟨r, hr, h1, h2⟩ := wd_pc w tg s t D.2.1
  obtain ⟨f_s, f_t, f_states, f_whole, f_counted, f_stateAt, a_target, a_length, a_shorter, a_firstEnd, a_next, a_copied, a_places, a_gap, a_cost, a_letters⟩ := u
  unfold wpX_fewest
  refine xq_pieces D R hr h1 h2 ?_
  rintro ⟨f_s, f_t, f_states, f_whole, f_counted, f_stateAt, a_target, a_length, a_shorter, a_firstEnd, a_next, a_copied, a_places, a_gap, a_cost, a_letters⟩ R'
  unfold wpY_fewest
  refine ys_cheapest (copy := 1) (add := 1) D (by omega) (by omega) (fun cY a hY => ⟨?_, s, t, w, tg, a, D, R', rfl⟩)
  rw [dp_few hY h1 h2]
theorem i_vc_cheapest {k : Nat} {u : SX} {v : SY} (I : i_Rel k u v) (hk : k + 3 ≤ 1536) (v1 : Int32) (v2 : Int32) : wpX_cheapest (fun r u' => wpY_cheapest (fun r' v' => r' = r ∧ i_Rel (k + 3) u' v') v v1 v2) u v1 v2 := by
  obtain ⟨s, t, w, tg, a_best, D, R, rfl⟩ := I
  by_cases h0 : v1 < 0
  · obtain ⟨f_s, f_t, f_states, f_whole, f_counted, f_stateAt, a_target, a_length, a_shorter, a_firstEnd, a_next, a_copied, a_places, a_gap, a_cost, a_letters⟩ := u
    exact br_t h0 (br_t h0 ⟨rfl, s, t, w, tg, a_best, D, R, rfl⟩)
  by_cases h1 : 100 < v1
  · obtain ⟨f_s, f_t, f_states, f_whole, f_counted, f_stateAt, a_target, a_length, a_shorter, a_firstEnd, a_next, a_copied, a_places, a_gap, a_cost, a_letters⟩ := u
    exact br_f h0 (br_t h1 (br_f h0 (br_t h1 ⟨rfl, s, t, w, tg, a_best, D, R, rfl⟩)))
  by_cases h2 : v2 < 0
  · obtain ⟨f_s, f_t, f_states, f_whole, f_counted, f_stateAt, a_target, a_length, a_shorter, a_firstEnd, a_next, a_copied, a_places, a_gap, a_cost, a_letters⟩ := u
    exact br_f h0 (br_f h1 (br_t h2 (br_f h0 (br_f h1 (br_t h2 ⟨rfl, s, t, w, tg, a_best, D, R, rfl⟩)))))
  by_cases h3 : v2 ≤ 100
  · obtain ⟨copy, hc, rfl⟩ := nI_of2 (M := 100) (n := 100) (by decide) h0 (Int32.not_lt.mp h1)
    obtain ⟨add, ha, rfl⟩ := nI_of2 (M := 100) (n := 100) (by decide) h2 h3
    exact xa_cheapest D R hc ha (fun cX u' hX R' => ys_cheapest D hc ha (fun cY a hY => ⟨by rw [dp_XY hX hY], s, t, w, tg, a, D, R', rfl⟩))
  · obtain ⟨f_s, f_t, f_states, f_whole, f_counted, f_stateAt, a_target, a_length, a_shorter, a_firstEnd, a_next, a_copied, a_places, a_gap, a_cost, a_letters⟩ := u
    exact br_f h0 (br_f h1 (br_f h2 (br_f h3 (br_f h0 (br_f h1 (br_f h2 (br_f h3 ⟨rfl, s, t, w, tg, a_best, D, R, rfl⟩)))))))
theorem i_vc_occurrences {k : Nat} {u : SX} {v : SY} (I : i_Rel k u v) (hk : k + 3 ≤ 1536) (v1 : Int32) (v2 : Int32) : wpX_occurrences (fun r u' => wpY_occurrences (fun r' => r' = r ∧ i_Rel (k + 3) u' v) v v1 v2) u v1 v2 := by
  obtain ⟨s, t, w, tg, a_best, D, R, rfl⟩ := I
  have ht := D.2.1
  by_cases h0 : v1 < 0
  · obtain ⟨f_s, f_t, f_states, f_whole, f_counted, f_stateAt, a_target, a_length, a_shorter, a_firstEnd, a_next, a_copied, a_places, a_gap, a_cost, a_letters⟩ := u
    exact br_t h0 (br_t h0 ⟨rfl, s, t, w, tg, a_best, D, R, rfl⟩)
  by_cases h1 : v2 < v1
  · obtain ⟨f_s, f_t, f_states, f_whole, f_counted, f_stateAt, a_target, a_length, a_shorter, a_firstEnd, a_next, a_copied, a_places, a_gap, a_cost, a_letters⟩ := u
    exact br_f h0 (br_t h1 (br_f h0 (br_t h1 ⟨rfl, s, t, w, tg, a_best, D, R, rfl⟩)))
  by_cases h2 : v2 ≤ nI t
  · obtain ⟨i, hi, rfl⟩ := nI_of h0
    have h3 : ¬ v2 < 0 := fun z => h1 (Int32.lt_of_lt_of_le z (nI_pos' hi))
    obtain ⟨j, hj, rfl⟩ := nI_of h3
    rw [nI_ltI hj hi] at h1
    rw [nI_leI hj (by omega)] at h2
    exact xa_occ D R (by omega) h2 (fun u' R' => ys_occ D (by omega) h2 ⟨rfl, s, t, w, tg, a_best, D, R', rfl⟩)
  · obtain ⟨f_s, f_t, f_states, f_whole, f_counted, f_stateAt, a_target, a_length, a_shorter, a_firstEnd, a_next, a_copied, a_places, a_gap, a_cost, a_letters⟩ := u
    have R' := R
    obtain ⟨rfl, rfl, rfl, rfl, hA⟩ := R'
    exact br_f h0 (br_f h1 (br_f h2 (br_f h0 (br_f h1 (br_f h2 ⟨rfl, s, t, w, tg, a_best, D, R, rfl⟩)))))
theorem i_vc_longest {k : Nat} {u : SX} {v : SY} (I : i_Rel k u v) (hk : k + 3 ≤ 1536) : wpX_longest (fun r u' => wpY_longest (fun r' => r' = r ∧ i_Rel (k + 3) u' v) v) u := by
  obtain ⟨s, t, w, tg, a_best, D, R, rfl⟩ := I
  exact xq_longest D R (fun u' R' => ys_longest D ⟨rfl, s, t, w, tg, a_best, D, R', rfl⟩)
theorem i_vc_longestAt {k : Nat} {u : SX} {v : SY} (I : i_Rel k u v) (hk : k + 3 ≤ 1536) : wpX_longestAt (fun r u' => wpY_longestAt (fun r' => r' = r ∧ i_Rel (k + 3) u' v) v) u := by
  obtain ⟨s, t, w, tg, a_best, D, R, rfl⟩ := I
  obtain ⟨r, hr⟩ := wd_at_ex w tg s t (wd_mx w tg s t t)
  have b := wd_mx_le w tg s t t
  obtain ⟨f_s, f_t, f_states, f_whole, f_counted, f_stateAt, a_target, a_length, a_shorter, a_firstEnd, a_next, a_copied, a_places, a_gap, a_cost, a_letters⟩ := u
  unfold wpX_longestAt
  refine xq_longest D R ?_
  rintro ⟨f_s, f_t, f_states, f_whole, f_counted, f_stateAt, a_target, a_length, a_shorter, a_firstEnd, a_next, a_copied, a_places, a_gap, a_cost, a_letters⟩ R2
  refine ⟨t + 1, xq_longAt D b hr (fun u' R' => ?_) t 0 (t + 1) _ _ _ _ _ _ _ _ _ _ _ _ _ _ _ _ R2 (by omega) (by omega) (fun j hj => by omega)⟩
  unfold wpY_longestAt
  refine ys_longest D ⟨t + 1, ?_⟩
  exact ys_longAt D b hr ⟨rfl, s, t, w, tg, a_best, D, R', rfl⟩ t 0 (t + 1) (by omega) (by omega) (fun j hj => by omega)
theorem i_vc_words {k : Nat} {u : SX} {v : SY} (I : i_Rel k u v) (hk : k + 3 ≤ 1536) : wpX_words (fun r => wpY_words (fun r' => r' = r ∧ i_Rel (k + 3) u v) v) u := by
  have I' := I
  obtain ⟨s, t, w, tg, a_best, D, R, rfl⟩ := I'
  exact xc_words D R (ys_words D ⟨rfl, I⟩)
theorem i_vc_wordsOf {k : Nat} {u : SX} {v : SY} (I : i_Rel k u v) (hk : k + 3 ≤ 1536) (v1 : Int32) : wpX_wordsOf (fun r => wpY_wordsOf (fun r' => r' = r ∧ i_Rel (k + 3) u v) v v1) u v1 := by
  have I' := I
  obtain ⟨s, t, w, tg, a_best, D, R, rfl⟩ := I'
  by_cases h : v1 < 1
  · exact xc_wordsN D R h (br_t h ⟨rfl, I⟩)
  · have h0 : ¬ v1 < 0 := fun z => h (Int32.lt_of_lt_of_le z (by decide))
    obtain ⟨m, hm, rfl⟩ := nI_of h0
    have m1 : 1 ≤ m := by
      rw [show (1 : Int32) = nI 1 from rfl, nI_ltI hm (by omega)] at h
      omega
    exact xc_wordsOf D R hm m1 (ys_wordsOf D hm m1 ⟨rfl, I⟩)
theorem i_vc_shortestAbsent {k : Nat} {u : SX} {v : SY} (I : i_Rel k u v) (hk : k + 3 ≤ 1536) : wpX_shortestAbsent (fun r u' => wpY_shortestAbsent (fun r' => r' = r ∧ i_Rel (k + 3) u' v) v) u := by
  obtain ⟨s, t, w, tg, a_best, D, R, rfl⟩ := I
  exact xa_absent D R (fun g u' hg R' => ys_absent D (fun r r1 h1 h2 => ⟨by rw [hg r r1 h1 h2], s, t, w, tg, a_best, D, R', rfl⟩))
theorem i_vc_longestRepeat {k : Nat} {u : SX} {v : SY} (I : i_Rel k u v) (hk : k + 3 ≤ 1536) : wpX_longestRepeat (fun r u' => wpY_longestRepeat (fun r' => r' = r ∧ i_Rel (k + 3) u' v) v) u := by
  obtain ⟨s, t, w, tg, a_best, D, R, rfl⟩ := I
  exact xc_repeat D R (fun r u' hr R' => ys_repeat D (fun r' hr' => ⟨by rw [qu_rep_u hr' hr], s, t, w, tg, a_best, D, R', rfl⟩))
end
