section
/-! ===== graphs by cuts: connection, closure, forests, the greedy set; A e, B e are the ends of edge e, a set of edges is a predicate ===== -/
/-- u and v hang together by the edges of S: no cut of S parts them -/
def gx_cn (A B : Nat → Nat) (S : Nat → Prop) (u v : Nat) : Prop :=
  ∀ f : Nat → Prop, (∀ e, S e → (f (A e) ↔ f (B e))) → (f u ↔ f v)
/-- the ends of e hang together by S -/
def gx_cl (A B : Nat → Nat) (S : Nat → Prop) (e : Nat) : Prop := gx_cn A B S (A e) (B e)
/-- no edge of S closes a ring of S -/
def gx_fo (A B : Nat → Nat) (S : Nat → Prop) : Prop := ∀ e, S e → ¬ gx_cl A B (fun j => S j ∧ j ≠ e) e
/-- S is a forest of P and spans it -/
def gx_sn (A B : Nat → Nat) (P S : Nat → Prop) : Prop := (∀ e, S e → P e) ∧ gx_fo A B S ∧ ∀ e, P e → gx_cl A B S e
/-- what the greedy way takes of P in the order of the ranks -/
def gx_gr (A B : Nat → Nat) (ρ : Nat → Nat) (P : Nat → Prop) (e : Nat) : Prop := P e ∧ ¬ gx_cl A B (fun j => P j ∧ ρ j < ρ e) e
section
variable {A B : Nat → Nat} {S T P X : Nat → Prop} {u v w e f : Nat} {ρ : Nat → Nat}
theorem gx_rf : gx_cn A B S u u := fun _ _ => Iff.rfl
theorem gx_sy (h : gx_cn A B S u v) : gx_cn A B S v u := fun f hf => (h f hf).symm
theorem gx_tr (h : gx_cn A B S u v) (h2 : gx_cn A B S v w) : gx_cn A B S u w := fun f hf => (h f hf).trans (h2 f hf)
theorem gx_ed (h : S e) : gx_cn A B S (A e) (B e) := fun _ hf => hf e h
theorem gx_lift (h : ∀ e, S e → gx_cn A B T (A e) (B e)) (c : gx_cn A B S u v) : gx_cn A B T u v := fun f hf => c f (fun e he => h e he f hf)
theorem gx_mono (h : ∀ e, S e → T e) (c : gx_cn A B S u v) : gx_cn A B T u v := fun f hf => c f (fun e he => hf e (h e he))
theorem gx_cmono (h : ∀ e, S e → T e) (c : gx_cl A B S e) : gx_cl A B T e := gx_mono h c
theorem gx_none (h : ∀ e, ¬ S e) (c : gx_cn A B S u v) : u = v := ((c (fun x => x = u) (fun e he => absurd he (h e))).mp rfl).symm
/-- one more edge -/
theorem gx_add (c : gx_cn A B (fun j => S j ∨ j = e) u v) :
    gx_cn A B S u v ∨ (gx_cn A B S u (A e) ∧ gx_cn A B S (B e) v) ∨ (gx_cn A B S u (B e) ∧ gx_cn A B S (A e) v) := by
  have key : ∀ j, (S j ∨ j = e) →
      ((gx_cn A B S u (A j) ∨ (gx_cn A B S u (A e) ∧ gx_cn A B S (B e) (A j)) ∨ (gx_cn A B S u (B e) ∧ gx_cn A B S (A e) (A j))) ↔
       (gx_cn A B S u (B j) ∨ (gx_cn A B S u (A e) ∧ gx_cn A B S (B e) (B j)) ∨ (gx_cn A B S u (B e) ∧ gx_cn A B S (A e) (B j)))) := by
    intro j hj
    rcases hj with hj | hj
    · have k : ∀ x, gx_cn A B S x (A j) ↔ gx_cn A B S x (B j) :=
        fun x => ⟨fun h => gx_tr h (gx_ed hj), fun h => gx_tr h (gx_sy (gx_ed hj))⟩
      rw [k u, k (B e), k (A e)]
    · rw [hj]
      constructor
      · intro h
        rcases h with h | h | h
        · exact Or.inr (Or.inl ⟨h, gx_rf⟩)
        · exact Or.inr (Or.inl ⟨h.1, gx_rf⟩)
        · exact Or.inl h.1
      · intro h
        rcases h with h | h | h
        · exact Or.inr (Or.inr ⟨h, gx_rf⟩)
        · exact Or.inl h.1
        · exact Or.inr (Or.inr ⟨h.1, gx_rf⟩)
  have h := c (fun x => gx_cn A B S u x ∨ (gx_cn A B S u (A e) ∧ gx_cn A B S (B e) x) ∨ (gx_cn A B S u (B e) ∧ gx_cn A B S (A e) x)) key
  exact h.mp (Or.inl gx_rf)
/-- exchange -/
theorem gx_ex (h : gx_cl A B (fun j => S j ∨ j = e) f) (hn : ¬ gx_cl A B S f) : gx_cl A B (fun j => S j ∨ j = f) e := by
  have m : ∀ {x y : Nat}, gx_cn A B S x y → gx_cn A B (fun j => S j ∨ j = f) x y := fun c => gx_mono (fun _ => Or.inl) c
  have ef : gx_cn A B (fun j => S j ∨ j = f) (A f) (B f) := gx_ed (Or.inr rfl)
  rcases gx_add h with h | h | h
  · exact absurd h hn
  · exact gx_tr (gx_sy (m h.1)) (gx_tr ef (gx_sy (m h.2)))
  · exact gx_tr (m h.2) (gx_tr (gx_sy ef) (m h.1))
/-- the same, with the edge to be taken out of a set -/
theorem gx_exd (hf : S f) (h : gx_cl A B S e) (hn : ¬ gx_cl A B (fun j => S j ∧ j ≠ f) e) : gx_cl A B (fun j => (S j ∧ j ≠ f) ∨ j = e) f := by
  refine gx_ex (gx_mono (fun j hj => ?_) h) hn
  by_cases z : j = f
  · exact Or.inr z
  · exact Or.inl ⟨hj, z⟩
theorem gx_fo_sub (h : gx_fo A B S) (hs : ∀ j, T j → S j) : gx_fo A B T :=
  fun e he hc => h e (hs e he) (gx_cmono (fun j hj => ⟨hs j hj.1, hj.2⟩) hc)
theorem gx_fo_add (h : gx_fo A B S) (hn : ¬ gx_cl A B S e) : gx_fo A B (fun j => S j ∨ j = e) := by
  intro f hf hc
  have he : ¬ S e := fun z => hn (gx_ed z)
  rcases hf with hf | hf
  · have h2 : gx_cl A B (fun j => (S j ∧ j ≠ f) ∨ j = e) f := gx_cmono (fun j hj => by
      rcases hj with ⟨hj | hj, hne⟩
      · exact Or.inl ⟨hj, hne⟩
      · exact Or.inr hj) hc
    have h3 := gx_ex h2 (h f hf)
    exact hn (gx_cmono (fun j hj => by
      rcases hj with hj | hj
      · exact hj.1
      · exact hj ▸ hf) h3)
  · subst hf
    exact hn (gx_cmono (fun j hj => by
      rcases hj with ⟨hj | hj, hne⟩
      · exact hj
      · exact absurd hj hne) hc)
/-- a set that can be taken one after the other is a forest -/
theorem gx_seq (N : Nat) (hb : ∀ j, S j → ρ j < N) (hi : ∀ i j, S i → S j → ρ i = ρ j → i = j)
    (h : ∀ e, S e → ¬ gx_cl A B (fun j => S j ∧ ρ j < ρ e) e) : gx_fo A B S := by
  have key : ∀ t : Nat, gx_fo A B (fun j => S j ∧ ρ j < t) := by
    intro t
    induction t with
    | zero => exact fun e he => absurd he.2 (Nat.not_lt_zero _)
    | succ t ih =>
      by_cases z : ∃ e, S e ∧ ρ e = t
      · obtain ⟨e, he, hr⟩ := z
        have hn : ¬ gx_cl A B (fun j => S j ∧ ρ j < t) e := by
          have := h e he
          rw [hr] at this
          exact this
        refine gx_fo_sub (gx_fo_add ih hn) (fun j hj => ?_)
        by_cases zz : ρ j = t
        · exact Or.inr (hi j e hj.1 he (zz.trans hr.symm))
        · exact Or.inl ⟨hj.1, by have := hj.2; omega⟩
      · refine gx_fo_sub ih (fun j hj => ⟨hj.1, ?_⟩)
        have : ρ j ≠ t := fun zz => z ⟨j, hj.1, zz⟩
        have := hj.2
        omega
  exact gx_fo_sub (key N) (fun j hj => ⟨hj, hb j hj⟩)
theorem gx_gr_fo (N : Nat) (hb : ∀ j, P j → ρ j < N) (hi : ∀ i j, P i → P j → ρ i = ρ j → i = j) : gx_fo A B (gx_gr A B ρ P) :=
  gx_seq N (fun j hj => hb j hj.1) (fun i j h1 h2 => hi i j h1.1 h2.1)
    (fun _ he hc => he.2 (gx_cmono (fun _ hj => ⟨hj.1.1, hj.2⟩) hc))
theorem gx_gr_t (t : Nat) : ∀ e, P e → ρ e < t → gx_cl A B (fun j => gx_gr A B ρ P j ∧ ρ j < t) e := by
  induction t with
  | zero => exact fun e _ h => absurd h (Nat.not_lt_zero _)
  | succ t ih =>
    intro e he ht
    have up : ∀ j, (gx_gr A B ρ P j ∧ ρ j < t) → (gx_gr A B ρ P j ∧ ρ j < t + 1) := fun j hj => ⟨hj.1, Nat.lt_succ_of_lt hj.2⟩
    by_cases z : ρ e < t
    · exact gx_cmono up (ih e he z)
    · have hr : ρ e = t := by omega
      by_cases g : gx_gr A B ρ P e
      · exact gx_ed ⟨g, ht⟩
      · have hc : gx_cl A B (fun j => P j ∧ ρ j < ρ e) e := Classical.byContradiction (fun n => g ⟨he, n⟩)
        exact gx_lift (fun j hj => gx_mono up (ih j hj.1 (hr ▸ hj.2))) hc
theorem gx_gr_sn (N : Nat) (hb : ∀ j, P j → ρ j < N) (hi : ∀ i j, P i → P j → ρ i = ρ j → i = j) : gx_sn A B P (gx_gr A B ρ P) :=
  ⟨fun _ h => h.1, gx_gr_fo N hb hi, fun e he => gx_cmono (fun _ hj => hj.1) (gx_gr_t N e he (hb e he))⟩
/-- in a forest an edge that is not needed can be left out of any part that hangs together -/
theorem gx_path (h : gx_fo A B S) (hX : ∀ j, X j → S j) (hc : gx_cl A B X e) (hk : S f) (hd : gx_cl A B (fun j => S j ∧ j ≠ f) e) :
    gx_cl A B (fun j => X j ∧ j ≠ f) e := by
  refine Classical.byContradiction (fun hn => h f hk ?_)
  by_cases z : X f
  · refine gx_lift (fun j hj => ?_) (gx_exd z hc hn)
    rcases hj with hj | hj
    · exact gx_ed ⟨hX j hj.1, hj.2⟩
    · rw [hj]; exact hd
  · exact absurd (gx_cmono (fun j hj => ⟨hj, fun q => z (q ▸ hj)⟩) hc) hn
/-- the ring that e closes in a forest S, if not within T, has an edge outside T -/
theorem gx_circ (h : gx_fo A B S) (h10 : ∀ j, S j → j < 10) (hT : ∀ j, T j → S j) (hc : gx_cl A B S e) (hn : ¬ gx_cl A B T e) :
    ∃ f, S f ∧ ¬ T f ∧ ¬ gx_cl A B (fun j => S j ∧ j ≠ f) e := by
  refine Classical.byContradiction (fun no => hn ?_)
  have all : ∀ f, S f → ¬ T f → gx_cl A B (fun j => S j ∧ j ≠ f) e :=
    fun f hf hTf => Classical.byContradiction (fun q => no ⟨f, hf, hTf, q⟩)
  have key : ∀ k : Nat, gx_cl A B (fun j => S j ∧ (T j ∨ k ≤ j)) e := by
    intro k
    induction k with
    | zero => exact gx_cmono (fun j hj => ⟨hj, Or.inr (Nat.zero_le _)⟩) hc
    | succ k ih =>
      by_cases z : S k ∧ ¬ T k
      · refine gx_cmono (fun j hj => ?_) (gx_path h (fun j hj => hj.1) ih z.1 (all k z.1 z.2))
        refine ⟨hj.1.1, ?_⟩
        rcases hj.1.2 with q | q
        · exact Or.inl q
        · exact Or.inr (by have := hj.2; omega)
      · refine gx_cmono (fun j hj => ⟨hj.1, ?_⟩) ih
        rcases hj.2 with q | q
        · exact Or.inl q
        · by_cases zz : j = k
          · subst zz
            exact Or.inl (Classical.byContradiction (fun q => z ⟨hj.1, q⟩))
          · exact Or.inr (by omega)
  refine gx_cmono (fun j hj => ?_) (key 10)
  rcases hj.2 with q | q
  · exact q
  · have := h10 j hj.1; omega
/-- one edge out, one in -/
theorem gx_swap (h : gx_sn A B P S) (he : P e) (hf : S f) (hn : ¬ gx_cl A B (fun j => S j ∧ j ≠ f) e) :
    gx_sn A B P (fun j => (S j ∧ j ≠ f) ∨ j = e) := by
  refine ⟨?_, gx_fo_add (gx_fo_sub h.2.1 (fun j hj => hj.1)) hn, ?_⟩
  · intro j hj
    rcases hj with hj | hj
    · exact h.1 j hj.1
    · exact hj ▸ he
  · intro j hj
    refine gx_lift (fun i hi => ?_) (h.2.2 j hj)
    by_cases z : i = f
    · rw [z]; exact gx_exd hf (h.2.2 e he) hn
    · exact gx_ed (Or.inl ⟨hi, z⟩)
theorem gx_least (Q : Nat → Prop) (h : ∃ k, Q k) : ∃ k, Q k ∧ ∀ j, j < k → ¬ Q j := by
  obtain ⟨k, hk⟩ := h
  induction k using Nat.strongRecOn with
  | ind k ih =>
    by_cases z : ∃ j, j < k ∧ Q j
    · obtain ⟨j, hj, hq⟩ := z
      exact ih j hj hq
    · exact ⟨k, hk, fun j hj hq => z ⟨j, hj, hq⟩⟩
/-- a spanning forest other than the greedy one can be bettered by one exchange -/
theorem gx_better (h10 : ∀ j, P j → j < 10) (hi : ∀ i j, P i → P j → ρ i = ρ j → i = j)
    (h : gx_sn A B P S) (hne : ¬ ∀ j, (S j ↔ gx_gr A B ρ P j)) :
    ∃ e f, gx_gr A B ρ P e ∧ ¬ S e ∧ S f ∧ ρ e < ρ f ∧ ¬ gx_cl A B (fun j => S j ∧ j ≠ f) e := by
  have hx : ∃ k, ∃ j, ρ j = k ∧ ¬ (S j ↔ gx_gr A B ρ P j) := by
    refine Classical.byContradiction (fun n => hne (fun j => Classical.byContradiction (fun q => n ⟨ρ j, j, rfl, q⟩)))
  obtain ⟨k, ⟨e, hk, hd⟩, hm⟩ := gx_least _ hx
  have same : ∀ j, ρ j < ρ e → (S j ↔ gx_gr A B ρ P j) := by
    intro j hj
    exact Classical.byContradiction (fun q => hm (ρ j) (hk ▸ hj) ⟨j, rfl, q⟩)
  by_cases z : S e
  · refine absurd ?_ (h.2.1 e z)
    have hg : ¬ gx_gr A B ρ P e := fun g => hd ⟨fun _ => g, fun _ => z⟩
    have hc : gx_cl A B (fun j => P j ∧ ρ j < ρ e) e := Classical.byContradiction (fun n => hg ⟨h.1 e z, n⟩)
    refine gx_lift (fun j hj => ?_) hc
    refine gx_mono (fun i hi => ?_) (gx_gr_t (ρ e) j hj.1 hj.2)
    exact ⟨(same i hi.2).mpr hi.1, fun q => by rw [q] at hi; exact Nat.lt_irrefl _ hi.2⟩
  · have hg : gx_gr A B ρ P e := Classical.byContradiction (fun n => hd ⟨fun q => absurd q z, fun q => absurd q n⟩)
    have hT : ¬ gx_cl A B (fun j => S j ∧ ρ j < ρ e) e := fun hc => hg.2 (gx_cmono (fun j hj => ⟨h.1 j hj.1, hj.2⟩) hc)
    obtain ⟨f, hf, hnT, hnc⟩ := gx_circ h.2.1 (fun j hj => h10 j (h.1 j hj)) (fun j hj => hj.1) (h.2.2 e hg.1) hT
    refine ⟨e, f, hg, z, hf, ?_, hnc⟩
    have h1 : ¬ ρ f < ρ e := fun q => hnT ⟨hf, q⟩
    have h2 : ρ f ≠ ρ e := fun q => z ((hi f e (h.1 f hf) hg.1 q) ▸ hf)
    omega
end
end
section
/-! ===== sets of edges as masks below 1024; sums; the order of the reference ===== -/
/-- the edges of a mask -/
def gx_bs (m : Nat) : Nat → Prop := fun e => m.testBit e = true
/-- a sum over the numbers below k -/
def gx_sm (f : Nat → Nat) : Nat → Nat
  | 0 => 0
  | k + 1 => gx_sm f k + f k
/-- the weight of a mask -/
def gx_wt (w : Nat → Nat) (m : Nat) : Nat := gx_sm (fun e => if m.testBit e = true then w e else 0) 10
def gx_in (m e : Nat) : Nat := m ||| 2 ^ e
def gx_de (m e : Nat) : Nat := m &&& (1023 ^^^ 2 ^ e)
def gx_sw (m f e : Nat) : Nat := gx_in (gx_de m f) e
def gx_rk (w : Nat → Nat) (e : Nat) : Nat := 10 * w e + e
/-- the reference's order of sets as one number -/
def gx_ky (w : Nat → Nat) (m : Nat) : Nat := 1024 * gx_wt w m + (1023 - gx_wt (fun e => 2 ^ (9 - e)) m)
theorem gx_sm_c {f g : Nat → Nat} : ∀ k : Nat, (∀ j, j < k → f j = g j) → gx_sm f k = gx_sm g k := by
  intro k
  induction k with
  | zero => exact fun _ => rfl
  | succ k ih =>
    intro h
    show gx_sm f k + f k = gx_sm g k + g k
    rw [ih (fun j hj => h j (Nat.lt_succ_of_lt hj)), h k (Nat.lt_succ_self k)]
theorem gx_sm_u {f g : Nat → Nat} {i : Nat} : ∀ k : Nat, i < k → (∀ j, j < k → j ≠ i → f j = g j) → gx_sm f k + g i = gx_sm g k + f i := by
  intro k
  induction k with
  | zero => exact fun h => absurd h (Nat.not_lt_zero _)
  | succ k ih =>
    intro hi h
    show gx_sm f k + f k + g i = gx_sm g k + g k + f i
    by_cases z : i = k
    · subst z
      rw [gx_sm_c (f := f) (g := g) i (fun j hj => h j (Nat.lt_succ_of_lt hj) (Nat.ne_of_lt hj))]
      omega
    · have h1 := ih (by omega) (fun j hj => h j (Nat.lt_succ_of_lt hj))
      have h2 := h k (Nat.lt_succ_self k) (Ne.symm z)
      omega
theorem gx_sm_le {f g : Nat → Nat} : ∀ k : Nat, (∀ j, j < k → f j ≤ g j) → gx_sm f k ≤ gx_sm g k := by
  intro k
  induction k with
  | zero => exact fun _ => Nat.le_refl _
  | succ k ih =>
    intro h
    exact Nat.add_le_add (ih (fun j hj => h j (Nat.lt_succ_of_lt hj))) (h k (Nat.lt_succ_self k))
theorem gx_sm_add (f : Nat → Nat) (a : Nat) : ∀ b : Nat, gx_sm f (a + b) = gx_sm f a + gx_sm (fun j => f (a + j)) b := by
  intro b
  induction b with
  | zero => rfl
  | succ b ih =>
    show gx_sm f (a + b) + f (a + b) = gx_sm f a + (gx_sm (fun j => f (a + j)) b + f (a + b))
    rw [ih, Nat.add_assoc]
theorem gx_sm_0 {f : Nat → Nat} (k : Nat) (h : ∀ j, j < k → f j = 0) : gx_sm f k = 0 := by
  induction k with
  | zero => rfl
  | succ k ih =>
    show gx_sm f k + f k = 0
    rw [ih (fun j hj => h j (Nat.lt_succ_of_lt hj)), h k (Nat.lt_succ_self k)]
theorem gx_in_b {m e j : Nat} : (gx_in m e).testBit j = (m.testBit j || decide (e = j)) := by
  unfold gx_in
  rw [Nat.testBit_or, Nat.testBit_two_pow]
theorem gx_in_lt {m e : Nat} (hm : m < 1024) (he : e < 10) : gx_in m e < 1024 :=
  Nat.or_lt_two_pow (n := 10) hm (Nat.pow_lt_pow_right (by decide) he)
theorem gx_hi {m j : Nat} (hm : m < 1024) (hj : 10 ≤ j) : m.testBit j = false :=
  Nat.testBit_lt_two_pow (Nat.lt_of_lt_of_le hm (Nat.pow_le_pow_right (n := 2) (by decide) hj))
theorem gx_lt10 {m j : Nat} (hm : m < 1024) (h : m.testBit j = true) : j < 10 := by
  refine Classical.byContradiction (fun n => ?_)
  rw [gx_hi hm (by omega)] at h
  exact Bool.noConfusion h
theorem gx_de_b {m e j : Nat} (hm : m < 1024) : (gx_de m e).testBit j = (m.testBit j && decide (e ≠ j)) := by
  unfold gx_de
  rw [Nat.testBit_and, Nat.testBit_xor, show (1023 : Nat) = 2 ^ 10 - 1 from rfl, Nat.testBit_two_pow_sub_one, Nat.testBit_two_pow]
  by_cases z : j < 10
  · by_cases q : e = j
    · simp [z, q]
    · simp [z, q]
  · rw [gx_hi hm (by omega)]; simp
theorem gx_de_lt {m e : Nat} (hm : m < 1024) : gx_de m e < 1024 := Nat.lt_of_le_of_lt Nat.and_le_left hm
theorem gx_ext {a b : Nat} (ha : a < 1024) (hb : b < 1024) (h : ∀ j, j < 10 → (a.testBit j = true ↔ b.testBit j = true)) : a = b := by
  apply Nat.eq_of_testBit_eq
  intro j
  by_cases z : j < 10
  · have := h j z
    cases h1 : a.testBit j <;> cases h2 : b.testBit j
    · rfl
    · rw [h1, h2] at this; exact absurd (this.mpr rfl) Bool.noConfusion
    · rw [h1, h2] at this; exact absurd (this.mp rfl) Bool.noConfusion
    · rfl
  · rw [gx_hi ha (by omega), gx_hi hb (by omega)]
theorem gx_bs_in {m e : Nat} : gx_bs (gx_in m e) = fun j => gx_bs m j ∨ j = e := by
  funext j
  unfold gx_bs
  rw [gx_in_b, Bool.or_eq_true, decide_eq_true_eq, eq_comm (a := e)]
theorem gx_bs_de {m e : Nat} (hm : m < 1024) : gx_bs (gx_de m e) = fun j => gx_bs m j ∧ j ≠ e := by
  funext j
  unfold gx_bs
  rw [gx_de_b hm, Bool.and_eq_true, decide_eq_true_eq, ne_eq, ne_eq, eq_comm (a := e)]
theorem gx_bs_sw {m f e : Nat} (hm : m < 1024) : gx_bs (gx_sw m f e) = fun j => (gx_bs m j ∧ j ≠ f) ∨ j = e := by
  unfold gx_sw
  rw [gx_bs_in, gx_bs_de hm]
theorem gx_sw_lt {m f e : Nat} (hm : m < 1024) (he : e < 10) : gx_sw m f e < 1024 := gx_in_lt (gx_de_lt hm) he
theorem gx_wt_in {w : Nat → Nat} {m e : Nat} (he : e < 10) (hn : ¬ gx_bs m e) : gx_wt w (gx_in m e) = gx_wt w m + w e := by
  have hb : m.testBit e = false := by cases h : m.testBit e <;> first | rfl | exact absurd h hn
  have h := gx_sm_u (f := fun j => if (gx_in m e).testBit j = true then w j else 0) (g := fun j => if m.testBit j = true then w j else 0) (i := e) 10 he
    (fun j _ hne => by
      show (if (gx_in m e).testBit j = true then w j else 0) = (if m.testBit j = true then w j else 0)
      rw [gx_in_b, decide_eq_false (Ne.symm hne), Bool.or_false])
  have h1 : (gx_in m e).testBit e = true := by rw [gx_in_b]; simp
  simp only [h1, hb, if_true, Bool.false_eq_true, if_false, Nat.add_zero] at h
  exact h
theorem gx_wt_de {w : Nat → Nat} {m e : Nat} (hm : m < 1024) (hb : gx_bs m e) : gx_wt w (gx_de m e) + w e = gx_wt w m := by
  have hb : m.testBit e = true := hb
  have he : e < 10 := gx_lt10 hm hb
  have h := gx_sm_u (f := fun j => if (gx_de m e).testBit j = true then w j else 0) (g := fun j => if m.testBit j = true then w j else 0) (i := e) 10 he
    (fun j _ hne => by
      show (if (gx_de m e).testBit j = true then w j else 0) = (if m.testBit j = true then w j else 0)
      rw [gx_de_b hm, decide_eq_true (Ne.symm hne), Bool.and_true])
  have h1 : (gx_de m e).testBit e = false := by rw [gx_de_b hm]; simp
  simp only [h1, hb, if_true, Bool.false_eq_true, if_false, Nat.add_zero] at h
  exact h
theorem gx_wt_sw {w : Nat → Nat} {m f e : Nat} (hm : m < 1024) (he : e < 10) (hf : gx_bs m f) (hn : ¬ gx_bs m e) : gx_wt w (gx_sw m f e) + w f = gx_wt w m + w e := by
  have h1 := gx_wt_de (w := w) hm hf
  have h2 : ¬ gx_bs (gx_de m f) e := by rw [gx_bs_de hm]; exact fun q => hn q.1
  have h3 := gx_wt_in (w := w) he h2
  unfold gx_sw
  omega
theorem gx_rev (m : Nat) : gx_wt (fun e => 2 ^ (9 - e)) m ≤ 1023 := by
  have h : gx_wt (fun e => 2 ^ (9 - e)) m ≤ gx_sm (fun e => 2 ^ (9 - e)) 10 := gx_sm_le 10 (fun j _ => by
    show (if m.testBit j = true then 2 ^ (9 - j) else 0) ≤ 2 ^ (9 - j)
    split
    · exact Nat.le_refl _
    · exact Nat.zero_le _)
  exact h
theorem gx_ky_sw {w : Nat → Nat} {m f e : Nat} (hm : m < 1024) (he : e < 10) (hf : gx_bs m f) (hn : ¬ gx_bs m e) (hr : gx_rk w e < gx_rk w f) :
    gx_ky w (gx_sw m f e) < gx_ky w m := by
  have h1 := gx_wt_sw (w := w) hm he hf hn
  have h2 := gx_wt_sw (w := fun e => 2 ^ (9 - e)) hm he hf hn
  have h3 := gx_rev (gx_sw m f e)
  have h4 := gx_rev m
  have hf10 : f < 10 := gx_lt10 hm hf
  unfold gx_rk at hr
  unfold gx_ky
  by_cases z : w e < w f
  · omega
  · have hw : w e = w f := by omega
    have hp : 2 ^ (9 - f) < 2 ^ (9 - e) := Nat.pow_lt_pow_right (by decide) (by omega)
    have h2' : gx_wt (fun e => 2 ^ (9 - e)) (gx_sw m f e) + 2 ^ (9 - f) = gx_wt (fun e => 2 ^ (9 - e)) m + 2 ^ (9 - e) := h2
    generalize 2 ^ (9 - f) = a at hp h2'
    generalize 2 ^ (9 - e) = b at hp h2'
    omega
theorem gx_ky_wt {w : Nat → Nat} {a b : Nat} (h : gx_ky w a ≤ gx_ky w b) : gx_wt w a ≤ gx_wt w b := by
  have h3 := gx_rev a
  have h4 := gx_rev b
  unfold gx_ky at h
  omega
theorem gx_mk (p : Nat → Prop) : ∃ m, m < 1024 ∧ ∀ j, (m.testBit j = true ↔ (j < 10 ∧ p j)) := by
  have key : ∀ k : Nat, ∃ m, m < 2 ^ k ∧ ∀ j, (m.testBit j = true ↔ (j < k ∧ p j)) := by
    intro k
    induction k with
    | zero => exact ⟨0, by decide, fun j => ⟨fun h => by rw [Nat.zero_testBit] at h; exact Bool.noConfusion h, fun h => absurd h.1 (Nat.not_lt_zero _)⟩⟩
    | succ k ih =>
      obtain ⟨m, hm, hb⟩ := ih
      have hp : 2 ^ k < 2 ^ (k + 1) := Nat.pow_lt_pow_right (by decide) (Nat.lt_succ_self k)
      by_cases z : p k
      · refine ⟨m ||| 2 ^ k, Nat.or_lt_two_pow (Nat.lt_trans hm hp) hp, fun j => ?_⟩
        rw [Nat.testBit_or, Nat.testBit_two_pow, Bool.or_eq_true, decide_eq_true_eq, hb j]
        constructor
        · intro h
          rcases h with h | h
          · exact ⟨by omega, h.2⟩
          · subst h; exact ⟨by omega, z⟩
        · intro h
          by_cases q : k = j
          · exact Or.inr q
          · exact Or.inl ⟨by omega, h.2⟩
      · refine ⟨m, Nat.lt_trans hm hp, fun j => ?_⟩
        rw [hb j]
        constructor
        · exact fun h => ⟨by omega, h.2⟩
        · intro h
          refine ⟨?_, h.2⟩
          have : j ≠ k := fun q => z (q ▸ h.2)
          omega
  exact key 10
theorem gx_rk_inj {w : Nat → Nat} {i j : Nat} (hi : i < 10) (hj : j < 10) (h : gx_rk w i = gx_rk w j) : i = j := by
  unfold gx_rk at h
  omega
end
section
/-! ===== what the answers are, in masks ===== -/
section
variable {A B w ρ : Nat → Nat} {p m K e : Nat}
theorem gx_p10 (hp : p < 1024) : ∀ j, gx_bs p j → j < 10 := fun _ h => gx_lt10 hp h
theorem gx_inj (hp : p < 1024) : ∀ i j, gx_bs p i → gx_bs p j → gx_rk w i = gx_rk w j → i = j :=
  fun _ _ hi hj h => gx_rk_inj (gx_lt10 hp hi) (gx_lt10 hp hj) h
theorem gx_bd (ρ : Nat → Nat) (hp : p < 1024) : ∃ N, ∀ j, gx_bs p j → ρ j < N := by
  refine ⟨gx_sm ρ 10 + 1, fun j hj => ?_⟩
  have key : ∀ k : Nat, j < k → ρ j ≤ gx_sm ρ k := by
    intro k
    induction k with
    | zero => exact fun h => absurd h (Nat.not_lt_zero _)
    | succ k ih =>
      intro h
      show ρ j ≤ gx_sm ρ k + ρ k
      by_cases z : j = k
      · subst z; omega
      · have := ih (by omega); omega
  have := key 10 (gx_lt10 hp hj)
  omega
theorem gx_K (w : Nat → Nat) (hp : p < 1024) : ∃ K, K < 1024 ∧ ∀ j, (gx_bs K j ↔ gx_gr A B (gx_rk w) (gx_bs p) j) := by
  obtain ⟨K, hK, hb⟩ := gx_mk (gx_gr A B (gx_rk w) (gx_bs p))
  exact ⟨K, hK, fun j => (hb j).trans ⟨fun h => h.2, fun h => ⟨gx_lt10 hp h.1, h⟩⟩⟩
theorem gx_K_sn (hp : p < 1024) (hi : ∀ i j, gx_bs p i → gx_bs p j → ρ i = ρ j → i = j) (hK : ∀ j, (gx_bs K j ↔ gx_gr A B ρ (gx_bs p) j)) :
    gx_sn A B (gx_bs p) (gx_bs K) := by
  have e : gx_bs K = gx_gr A B ρ (gx_bs p) := funext (fun j => propext (hK j))
  obtain ⟨N, hN⟩ := gx_bd ρ hp
  rw [e]
  exact gx_gr_sn N hN hi
/-- one step towards the greedy set -/
theorem gx_step (hp : p < 1024) (hi : ∀ i j, gx_bs p i → gx_bs p j → ρ i = ρ j → i = j)
    (hm : m < 1024) (h : gx_sn A B (gx_bs p) (gx_bs m)) (hne : ¬ ∀ j, (gx_bs m j ↔ gx_gr A B ρ (gx_bs p) j)) :
    ∃ e f, gx_gr A B ρ (gx_bs p) e ∧ e < 10 ∧ ¬ gx_bs m e ∧ gx_bs m f ∧ ρ e < ρ f ∧ gx_sn A B (gx_bs p) (gx_bs (gx_sw m f e)) := by
  obtain ⟨e, f, h1, h2, h3, h4, h5⟩ := gx_better (gx_p10 hp) hi h hne
  refine ⟨e, f, h1, gx_lt10 hp h1.1, h2, h3, h4, ?_⟩
  rw [gx_bs_sw hm]
  exact gx_swap h h1.1 h3 h5
/-- the least set of the reference's order is the greedy set -/
theorem gx_best (hp : p < 1024) (hm : m < 1024) (h : gx_sn A B (gx_bs p) (gx_bs m))
    (hl : ∀ m', m' < 1024 → gx_sn A B (gx_bs p) (gx_bs m') → gx_ky w m ≤ gx_ky w m') : ∀ j, (gx_bs m j ↔ gx_gr A B (gx_rk w) (gx_bs p) j) := by
  refine Classical.byContradiction (fun hne => ?_)
  obtain ⟨e, f, _, h10, h2, h3, h4, h5⟩ := gx_step hp (gx_inj hp) hm h hne
  have := hl _ (gx_sw_lt hm h10) h5
  have := gx_ky_sw (w := w) hm h10 h3 h2 h4
  omega
/-- the greedy set is cheapest, and all spanning forests have its size -/
theorem gx_min (hp : p < 1024) (hi : ∀ i j, gx_bs p i → gx_bs p j → ρ i = ρ j → i = j)
    (hw : ∀ i j, gx_bs p i → gx_bs p j → ρ i < ρ j → w i ≤ w j) (hK1 : K < 1024) (hK : ∀ j, (gx_bs K j ↔ gx_gr A B ρ (gx_bs p) j)) :
    ∀ m, m < 1024 → gx_sn A B (gx_bs p) (gx_bs m) → gx_wt w K ≤ gx_wt w m ∧ gx_wt (fun _ => 1) m = gx_wt (fun _ => 1) K := by
  have key : ∀ n : Nat, ∀ m, m < 1024 → gx_sn A B (gx_bs p) (gx_bs m) → gx_wt ρ m = n → gx_wt w K ≤ gx_wt w m ∧ gx_wt (fun _ => 1) m = gx_wt (fun _ => 1) K := by
    intro n
    induction n using Nat.strongRecOn with
    | ind n ih =>
      intro m hm h hn
      by_cases z : ∀ j, (gx_bs m j ↔ gx_gr A B ρ (gx_bs p) j)
      · have : m = K := gx_ext hm hK1 (fun j _ => (z j).trans (hK j).symm)
        rw [this]
        exact ⟨Nat.le_refl _, rfl⟩
      · obtain ⟨e, f, h1, h10, h2, h3, h4, h5⟩ := gx_step hp hi hm h z
        have a1 := gx_wt_sw (w := ρ) hm h10 h3 h2
        have a2 := gx_wt_sw (w := w) hm h10 h3 h2
        have a3 : gx_wt (fun _ => 1) (gx_sw m f e) + 1 = gx_wt (fun _ => 1) m + 1 := gx_wt_sw (w := fun _ => 1) hm h10 h3 h2
        have a4 := hw e f h1.1 (h.1 f h3) h4
        have := ih (gx_wt ρ (gx_sw m f e)) (by omega) (gx_sw m f e) (gx_sw_lt hm h10) h5 rfl
        omega
  exact fun m hm h => key _ m hm h rfl
theorem gx_rk_w : ∀ i j, gx_bs p i → gx_bs p j → i < 10 → j < 10 → gx_rk w i < gx_rk w j → w i ≤ w j := by
  intro i j _ _ hi hj h
  unfold gx_rk at h
  omega
theorem gx_minK (hp : p < 1024) (hK1 : K < 1024) (hK : ∀ j, (gx_bs K j ↔ gx_gr A B (gx_rk w) (gx_bs p) j)) :
    ∀ m, m < 1024 → gx_sn A B (gx_bs p) (gx_bs m) → gx_wt w K ≤ gx_wt w m ∧ gx_wt (fun _ => 1) m = gx_wt (fun _ => 1) K :=
  gx_min hp (gx_inj hp) (fun i j hi hj h => gx_rk_w (p := p) i j hi hj (gx_lt10 hp hi) (gx_lt10 hp hj) h) hK1 hK
/-- a spanning forest other than the greedy one is no cheaper than some single exchange of the greedy one -/
theorem gx_snd (hp : p < 1024) (hK1 : K < 1024) (hK : ∀ j, (gx_bs K j ↔ gx_gr A B (gx_rk w) (gx_bs p) j)) :
    ∀ m, m < 1024 → gx_sn A B (gx_bs p) (gx_bs m) → m ≠ K →
      ∃ e f, gx_bs p f ∧ ¬ gx_bs K f ∧ gx_bs K e ∧ ¬ gx_cl A B (fun j => gx_bs K j ∧ j ≠ e) f ∧ gx_wt w K + w f ≤ gx_wt w m + w e := by
  have key : ∀ n : Nat, ∀ m, m < 1024 → gx_sn A B (gx_bs p) (gx_bs m) → m ≠ K → gx_wt (gx_rk w) m = n →
      ∃ e f, gx_bs p f ∧ ¬ gx_bs K f ∧ gx_bs K e ∧ ¬ gx_cl A B (fun j => gx_bs K j ∧ j ≠ e) f ∧ gx_wt w K + w f ≤ gx_wt w m + w e := by
    intro n
    induction n using Nat.strongRecOn with
    | ind n ih =>
      intro m hm h hmK hn
      have z : ¬ ∀ j, (gx_bs m j ↔ gx_gr A B (gx_rk w) (gx_bs p) j) :=
        fun z => hmK (gx_ext hm hK1 (fun j _ => (z j).trans (hK j).symm))
      obtain ⟨e, f, h1, h10, h2, h3, h4, h5⟩ := gx_step hp (gx_inj hp) hm h z
      have a1 := gx_wt_sw (w := gx_rk w) hm h10 h3 h2
      have a2 := gx_wt_sw (w := w) hm h10 h3 h2
      have a4 := gx_rk_w (p := p) (w := w) e f h1.1 (h.1 f h3) h10 (gx_lt10 hm h3) h4
      by_cases q : gx_sw m f e = K
      · have hs : gx_bs K = fun j => (gx_bs m j ∧ j ≠ f) ∨ j = e := by rw [← q, gx_bs_sw hm]
        have hfe : f ≠ e := fun r => h2 (r ▸ h3)
        refine ⟨e, f, h.1 f h3, ?_, (hK e).mpr h1, ?_, ?_⟩
        · rw [hs]
          intro r
          rcases r with r | r
          · exact r.2 rfl
          · exact hfe r
        · intro hc
          refine h.2.1 f h3 (gx_cmono (fun j hj => ?_) hc)
          rw [hs] at hj
          rcases hj.1 with r | r
          · exact r
          · exact absurd r hj.2
        · rw [q] at a2; omega
      · obtain ⟨e', f', b1, b2, b3, b4, b5⟩ := ih (gx_wt (gx_rk w) (gx_sw m f e)) (by omega) (gx_sw m f e) (gx_sw_lt hm h10) h5 q rfl
        exact ⟨e', f', b1, b2, b3, b4, by omega⟩
  exact fun m hm h hne => key _ m hm h hne rfl
/-- an exchange of a forest by the last edge of the greedy way between the ends of f -/
theorem gx_last {l f : Nat} (hK1 : K < 1024) (hKs : gx_sn A B (gx_bs p) (gx_bs K)) (hl : gx_bs K l)
    (h1 : gx_cl A B (fun j => gx_bs K j ∧ ρ j ≤ ρ l) f) (h2 : ¬ gx_cl A B (fun j => gx_bs K j ∧ ρ j < ρ l) f) (hi : ∀ i j, gx_bs K i → gx_bs K j → ρ i = ρ j → i = j) :
    ¬ gx_cl A B (fun j => gx_bs K j ∧ j ≠ l) f ∧ ∀ e, gx_bs K e → ¬ gx_cl A B (fun j => gx_bs K j ∧ j ≠ e) f → ρ e ≤ ρ l := by
  refine ⟨fun hc => h2 ?_, fun e he hn => ?_⟩
  · refine gx_cmono (fun j hj => ⟨hj.1.1, ?_⟩) (gx_path hKs.2.1 (fun j hj => hj.1) h1 hl hc)
    have a := hj.1.2
    have b : ρ j ≠ ρ l := fun q => hj.2 (hi j l hj.1.1 hl q)
    omega
  · refine Classical.byContradiction (fun q => hn (gx_cmono (fun j hj => ⟨hj.1, fun r => ?_⟩) h1))
    rw [r] at hj
    exact q hj.2
/-- an edge is needed when its ends hang together by no others -/
theorem gx_need (hp : p < 1024) (he : gx_bs p e) :
    (∀ m, m < 1024 → gx_sn A B (gx_bs p) (gx_bs m) → gx_bs m e) ↔ ¬ gx_cl A B (fun j => gx_bs p j ∧ j ≠ e) e := by
  constructor
  · intro h hc
    have hd : gx_de p e < 1024 := gx_de_lt hp
    obtain ⟨K, hK1, hK⟩ := gx_K (A := A) (B := B) (fun _ => 0) hd
    have hs := gx_K_sn hd (gx_inj hd) hK
    have hs' : gx_sn A B (gx_bs p) (gx_bs K) := by
      rw [gx_bs_de hp] at hs
      refine ⟨fun j hj => (hs.1 j hj).1, hs.2.1, fun j hj => ?_⟩
      by_cases z : j = e
      · rw [z]
        exact gx_lift (fun i hi => hs.2.2 i hi) hc
      · exact hs.2.2 j ⟨hj, z⟩
    have h1 := h K hK1 hs'
    have h2 := hs.1 e h1
    rw [gx_bs_de hp] at h2
    exact h2.2 rfl
  · intro h m hm hs
    refine Classical.byContradiction (fun n => h ?_)
    exact gx_cmono (fun j hj => ⟨hs.1 j hj, fun q => n (q ▸ hj)⟩) (hs.2.2 e he)
/-- sizes: without e as many edges are taken, or one less when e is needed -/
theorem gx_size {K K' : Nat} (hp : p < 1024) (he : gx_bs p e) (hK1 : K < 1024) (hK : ∀ j, (gx_bs K j ↔ gx_gr A B (gx_rk w) (gx_bs p) j))
    (hK1' : K' < 1024) (hK' : ∀ j, (gx_bs K' j ↔ gx_gr A B (gx_rk w) (gx_bs (gx_de p e)) j)) :
    (gx_cl A B (fun j => gx_bs p j ∧ j ≠ e) e → gx_wt (fun _ => 1) K' = gx_wt (fun _ => 1) K) ∧
    (¬ gx_cl A B (fun j => gx_bs p j ∧ j ≠ e) e → gx_wt (fun _ => 1) K' + 1 = gx_wt (fun _ => 1) K) := by
  have hd : gx_de p e < 1024 := gx_de_lt hp
  have hs := gx_K_sn hd (gx_inj hd) hK'
  rw [gx_bs_de hp] at hs
  have he10 : e < 10 := gx_lt10 hp he
  constructor
  · intro hc
    have hs' : gx_sn A B (gx_bs p) (gx_bs K') := by
      refine ⟨fun j hj => (hs.1 j hj).1, hs.2.1, fun j hj => ?_⟩
      by_cases z : j = e
      · rw [z]
        exact gx_lift (fun i hi => hs.2.2 i hi) hc
      · exact hs.2.2 j ⟨hj, z⟩
    exact (gx_minK hp hK1 hK K' hK1' hs').2
  · intro hc
    have hn : ¬ gx_bs K' e := fun q => (hs.1 e q).2 rfl
    have hs' : gx_sn A B (gx_bs p) (gx_bs (gx_in K' e)) := by
      rw [gx_bs_in]
      refine ⟨fun j hj => ?_, gx_fo_add hs.2.1 (fun q => hc (gx_cmono (fun j hj => hs.1 j hj) q)), fun j hj => ?_⟩
      · rcases hj with hj | hj
        · exact (hs.1 j hj).1
        · exact hj ▸ he
      · by_cases z : j = e
        · exact gx_ed (Or.inr z)
        · exact gx_cmono (fun i hi => Or.inl hi) (hs.2.2 j ⟨hj, z⟩)
    have h1 := (gx_minK hp hK1 hK (gx_in K' e) (gx_in_lt hK1' he10) hs').2
    rw [gx_wt_in he10 hn] at h1
    exact h1
/-- edges of some cheapest forest -/
theorem gx_poss (hp : p < 1024) (he : gx_bs p e) (hK1 : K < 1024) (hK : ∀ j, (gx_bs K j ↔ gx_gr A B (gx_rk w) (gx_bs p) j)) :
    (∃ m, m < 1024 ∧ gx_sn A B (gx_bs p) (gx_bs m) ∧ gx_wt w m = gx_wt w K ∧ gx_bs m e) ↔ ¬ gx_cl A B (fun j => gx_bs p j ∧ w j < w e) e := by
  have hmin := gx_minK hp hK1 hK
  have he10 : e < 10 := gx_lt10 hp he
  constructor
  · intro h hc
    obtain ⟨m, hm, hs, hw, hb⟩ := h
    have hx : ∃ j, (gx_bs p j ∧ w j < w e) ∧ ¬ gx_cl A B (fun i => gx_bs m i ∧ i ≠ e) j :=
      Classical.byContradiction (fun n => hs.2.1 e hb (gx_lift (fun j hj => Classical.byContradiction (fun q => n ⟨j, hj, q⟩)) hc))
    obtain ⟨j, hj, hn⟩ := hx
    have hnj : ¬ gx_bs m j := fun q => hn (gx_ed ⟨q, fun r => by rw [r] at hj; exact Nat.lt_irrefl _ hj.2⟩)
    have h10 := gx_lt10 hp hj.1
    have hs' := gx_swap hs hj.1 hb hn
    rw [← gx_bs_sw hm] at hs'
    have a1 := (hmin _ (gx_sw_lt hm h10) hs').1
    have a2 := gx_wt_sw (w := w) hm h10 hb hnj
    have := hj.2
    omega
  · intro hc
    have hs := gx_K_sn hp (gx_inj hp) hK
    by_cases z : gx_bs K e
    · exact ⟨K, hK1, hs, rfl, z⟩
    · have hT : ¬ gx_cl A B (fun j => gx_bs K j ∧ w j < w e) e := fun q => hc (gx_cmono (fun j hj => ⟨hs.1 j hj.1, hj.2⟩) q)
      obtain ⟨f, hf, hnT, hnc⟩ := gx_circ hs.2.1 (gx_p10 hK1) (fun j hj => hj.1) (hs.2.2 e he) hT
      have hs' := gx_swap hs he hf hnc
      rw [← gx_bs_sw hK1] at hs'
      have a1 := (hmin _ (gx_sw_lt hK1 he10) hs').1
      have a2 := gx_wt_sw (w := w) hK1 he10 hf z
      have a3 : ¬ w f < w e := fun q => hnT ⟨hf, q⟩
      refine ⟨gx_sw K f e, gx_sw_lt hK1 he10, hs', by omega, ?_⟩
      rw [gx_bs_sw hK1]
      exact Or.inr rfl
/-- edges of all cheapest forests -/
theorem gx_cert (hp : p < 1024) (he : gx_bs p e) (hK1 : K < 1024) (hK : ∀ j, (gx_bs K j ↔ gx_gr A B (gx_rk w) (gx_bs p) j)) :
    (∀ m, m < 1024 → gx_sn A B (gx_bs p) (gx_bs m) → gx_wt w m = gx_wt w K → gx_bs m e) ↔ ¬ gx_cl A B (fun j => (gx_bs p j ∧ w j < w e + 1) ∧ j ≠ e) e := by
  have hmin := gx_minK hp hK1 hK
  have he10 : e < 10 := gx_lt10 hp he
  have hs := gx_K_sn hp (gx_inj hp) hK
  constructor
  · intro h hc
    have hb := h K hK1 hs rfl
    have hx : ∃ j, ((gx_bs p j ∧ w j < w e + 1) ∧ j ≠ e) ∧ ¬ gx_cl A B (fun i => gx_bs K i ∧ i ≠ e) j :=
      Classical.byContradiction (fun n => hs.2.1 e hb (gx_lift (fun j hj => Classical.byContradiction (fun q => n ⟨j, hj, q⟩)) hc))
    obtain ⟨j, hj, hn⟩ := hx
    have hnj : ¬ gx_bs K j := fun q => hn (gx_ed ⟨q, hj.2⟩)
    have h10 := gx_lt10 hp hj.1.1
    have hs' := gx_swap hs hj.1.1 hb hn
    rw [← gx_bs_sw hK1] at hs'
    have a1 := (hmin _ (gx_sw_lt hK1 h10) hs').1
    have a2 := gx_wt_sw (w := w) hK1 h10 hb hnj
    have a3 := hj.1.2
    have hb' := h _ (gx_sw_lt hK1 h10) hs' (by omega)
    rw [gx_bs_sw hK1] at hb'
    rcases hb' with q | q
    · exact q.2 rfl
    · exact hj.2 q.symm
  · intro hc m hm hsm hw
    refine Classical.byContradiction (fun z => ?_)
    have hT : ¬ gx_cl A B (fun j => gx_bs m j ∧ w j < w e + 1) e :=
      fun q => hc (gx_cmono (fun j hj => ⟨⟨hsm.1 j hj.1, hj.2⟩, fun r => z (r ▸ hj.1)⟩) q)
    obtain ⟨f, hf, hnT, hnc⟩ := gx_circ hsm.2.1 (gx_p10 hm) (fun j hj => hj.1) (hsm.2.2 e he) hT
    have hs' := gx_swap hsm he hf hnc
    rw [← gx_bs_sw hm] at hs'
    have a1 := (hmin _ (gx_sw_lt hm he10) hs').1
    have a2 := gx_wt_sw (w := w) hm he10 hf z
    have a3 : ¬ w f < w e + 1 := fun q => hnT ⟨hf, q⟩
    omega
end
end
section
/-! ===== determinants of five rows ===== -/
def mx_t2 (M : Nat → Nat → Int) (i j a b : Nat) : Int := M i a * M j b - M i b * M j a
def mx_t3 (M : Nat → Nat → Int) (i j k a b c : Nat) : Int := M i a * mx_t2 M j k b c - M i b * mx_t2 M j k a c + M i c * mx_t2 M j k a b
def mx_t4 (M : Nat → Nat → Int) (i j k l a b c d : Nat) : Int := M i a * mx_t3 M j k l b c d - M i b * mx_t3 M j k l a c d + M i c * mx_t3 M j k l a b d - M i d * mx_t3 M j k l a b c
def mx_t5 (M : Nat → Nat → Int) (i j k l n a b c d e : Nat) : Int := M i a * mx_t4 M j k l n b c d e - M i b * mx_t4 M j k l n a c d e + M i c * mx_t4 M j k l n a b d e - M i d * mx_t4 M j k l n a b c e + M i e * mx_t4 M j k l n a b c d
theorem mx_b1 (M : Nat → Nat → Int) (i j r a b k : Nat) : mx_t2 M i r a k * mx_t2 M i j a b - mx_t2 M i r a b * mx_t2 M i j a k = M i a * mx_t3 M i j r a b k := by
  unfold mx_t3 mx_t2
  grind
theorem mx_b2 (M : Nat → Nat → Int) (i j l r a b c k : Nat) : mx_t3 M i j r a b k * mx_t3 M i j l a b c - mx_t3 M i j r a b c * mx_t3 M i j l a b k = mx_t2 M i j a b * mx_t4 M i j l r a b c k := by
  unfold mx_t4 mx_t3 mx_t2
  grind
set_option maxHeartbeats 4000000 in
theorem mx_b3 (M : Nat → Nat → Int) (i j l n r a b c d k : Nat) : mx_t4 M i j l r a b c k * mx_t4 M i j l n a b c d - mx_t4 M i j l r a b c d * mx_t4 M i j l n a b c k = mx_t3 M i j l a b c * mx_t5 M i j l n r a b c d k := by
  unfold mx_t5 mx_t4 mx_t3 mx_t2
  grind
end
section
/-! ===== deletion and contraction for determinants of five rows ===== -/
def mx_dl (x i : Nat) : Int := if x = i then 1 else 0
def mx_det (M : Nat → Nat → Int) : Int := mx_t5 M 1 2 3 4 5 1 2 3 4 5
set_option maxHeartbeats 4000000 in
theorem mx_i1_1 (M : Nat → Nat → Int) : mx_det (fun i j => M i j + mx_dl 1 i * mx_dl 1 j) = mx_det M + mx_det (fun i j => if i = 1 ∨ j = 1 then mx_dl i j else M i j) := by
  simp [mx_det, mx_t5, mx_t4, mx_t3, mx_t2, mx_dl]
  grind
set_option maxHeartbeats 4000000 in
theorem mx_i1_2 (M : Nat → Nat → Int) : mx_det (fun i j => M i j + mx_dl 2 i * mx_dl 2 j) = mx_det M + mx_det (fun i j => if i = 2 ∨ j = 2 then mx_dl i j else M i j) := by
  simp [mx_det, mx_t5, mx_t4, mx_t3, mx_t2, mx_dl]
  grind
set_option maxHeartbeats 4000000 in
theorem mx_i1_3 (M : Nat → Nat → Int) : mx_det (fun i j => M i j + mx_dl 3 i * mx_dl 3 j) = mx_det M + mx_det (fun i j => if i = 3 ∨ j = 3 then mx_dl i j else M i j) := by
  simp [mx_det, mx_t5, mx_t4, mx_t3, mx_t2, mx_dl]
  grind
set_option maxHeartbeats 4000000 in
theorem mx_i1_4 (M : Nat → Nat → Int) : mx_det (fun i j => M i j + mx_dl 4 i * mx_dl 4 j) = mx_det M + mx_det (fun i j => if i = 4 ∨ j = 4 then mx_dl i j else M i j) := by
  simp [mx_det, mx_t5, mx_t4, mx_t3, mx_t2, mx_dl]
  grind
set_option maxHeartbeats 4000000 in
theorem mx_i1_5 (M : Nat → Nat → Int) : mx_det (fun i j => M i j + mx_dl 5 i * mx_dl 5 j) = mx_det M + mx_det (fun i j => if i = 5 ∨ j = 5 then mx_dl i j else M i j) := by
  simp [mx_det, mx_t5, mx_t4, mx_t3, mx_t2, mx_dl]
  grind
set_option maxHeartbeats 4000000 in
theorem mx_i2_12 (M : Nat → Nat → Int) : mx_det (fun i j => M i j + (mx_dl 1 i - mx_dl 2 i) * (mx_dl 1 j - mx_dl 2 j)) = mx_det M + mx_det (fun i j => if i = 2 ∨ j = 2 then mx_dl i j else M i j + mx_dl 1 i * M 2 j + mx_dl 1 j * M i 2 + mx_dl 1 i * mx_dl 1 j * M 2 2) := by
  simp [mx_det, mx_t5, mx_t4, mx_t3, mx_t2, mx_dl]
  grind
set_option maxHeartbeats 4000000 in
theorem mx_i2_13 (M : Nat → Nat → Int) : mx_det (fun i j => M i j + (mx_dl 1 i - mx_dl 3 i) * (mx_dl 1 j - mx_dl 3 j)) = mx_det M + mx_det (fun i j => if i = 3 ∨ j = 3 then mx_dl i j else M i j + mx_dl 1 i * M 3 j + mx_dl 1 j * M i 3 + mx_dl 1 i * mx_dl 1 j * M 3 3) := by
  simp [mx_det, mx_t5, mx_t4, mx_t3, mx_t2, mx_dl]
  grind
set_option maxHeartbeats 4000000 in
theorem mx_i2_14 (M : Nat → Nat → Int) : mx_det (fun i j => M i j + (mx_dl 1 i - mx_dl 4 i) * (mx_dl 1 j - mx_dl 4 j)) = mx_det M + mx_det (fun i j => if i = 4 ∨ j = 4 then mx_dl i j else M i j + mx_dl 1 i * M 4 j + mx_dl 1 j * M i 4 + mx_dl 1 i * mx_dl 1 j * M 4 4) := by
  simp [mx_det, mx_t5, mx_t4, mx_t3, mx_t2, mx_dl]
  grind
set_option maxHeartbeats 4000000 in
theorem mx_i2_15 (M : Nat → Nat → Int) : mx_det (fun i j => M i j + (mx_dl 1 i - mx_dl 5 i) * (mx_dl 1 j - mx_dl 5 j)) = mx_det M + mx_det (fun i j => if i = 5 ∨ j = 5 then mx_dl i j else M i j + mx_dl 1 i * M 5 j + mx_dl 1 j * M i 5 + mx_dl 1 i * mx_dl 1 j * M 5 5) := by
  simp [mx_det, mx_t5, mx_t4, mx_t3, mx_t2, mx_dl]
  grind
set_option maxHeartbeats 4000000 in
theorem mx_i2_23 (M : Nat → Nat → Int) : mx_det (fun i j => M i j + (mx_dl 2 i - mx_dl 3 i) * (mx_dl 2 j - mx_dl 3 j)) = mx_det M + mx_det (fun i j => if i = 3 ∨ j = 3 then mx_dl i j else M i j + mx_dl 2 i * M 3 j + mx_dl 2 j * M i 3 + mx_dl 2 i * mx_dl 2 j * M 3 3) := by
  simp [mx_det, mx_t5, mx_t4, mx_t3, mx_t2, mx_dl]
  grind
set_option maxHeartbeats 4000000 in
theorem mx_i2_24 (M : Nat → Nat → Int) : mx_det (fun i j => M i j + (mx_dl 2 i - mx_dl 4 i) * (mx_dl 2 j - mx_dl 4 j)) = mx_det M + mx_det (fun i j => if i = 4 ∨ j = 4 then mx_dl i j else M i j + mx_dl 2 i * M 4 j + mx_dl 2 j * M i 4 + mx_dl 2 i * mx_dl 2 j * M 4 4) := by
  simp [mx_det, mx_t5, mx_t4, mx_t3, mx_t2, mx_dl]
  grind
set_option maxHeartbeats 4000000 in
theorem mx_i2_25 (M : Nat → Nat → Int) : mx_det (fun i j => M i j + (mx_dl 2 i - mx_dl 5 i) * (mx_dl 2 j - mx_dl 5 j)) = mx_det M + mx_det (fun i j => if i = 5 ∨ j = 5 then mx_dl i j else M i j + mx_dl 2 i * M 5 j + mx_dl 2 j * M i 5 + mx_dl 2 i * mx_dl 2 j * M 5 5) := by
  simp [mx_det, mx_t5, mx_t4, mx_t3, mx_t2, mx_dl]
  grind
set_option maxHeartbeats 4000000 in
theorem mx_i2_34 (M : Nat → Nat → Int) : mx_det (fun i j => M i j + (mx_dl 3 i - mx_dl 4 i) * (mx_dl 3 j - mx_dl 4 j)) = mx_det M + mx_det (fun i j => if i = 4 ∨ j = 4 then mx_dl i j else M i j + mx_dl 3 i * M 4 j + mx_dl 3 j * M i 4 + mx_dl 3 i * mx_dl 3 j * M 4 4) := by
  simp [mx_det, mx_t5, mx_t4, mx_t3, mx_t2, mx_dl]
  grind
set_option maxHeartbeats 4000000 in
theorem mx_i2_35 (M : Nat → Nat → Int) : mx_det (fun i j => M i j + (mx_dl 3 i - mx_dl 5 i) * (mx_dl 3 j - mx_dl 5 j)) = mx_det M + mx_det (fun i j => if i = 5 ∨ j = 5 then mx_dl i j else M i j + mx_dl 3 i * M 5 j + mx_dl 3 j * M i 5 + mx_dl 3 i * mx_dl 3 j * M 5 5) := by
  simp [mx_det, mx_t5, mx_t4, mx_t3, mx_t2, mx_dl]
  grind
set_option maxHeartbeats 4000000 in
theorem mx_i2_45 (M : Nat → Nat → Int) : mx_det (fun i j => M i j + (mx_dl 4 i - mx_dl 5 i) * (mx_dl 4 j - mx_dl 5 j)) = mx_det M + mx_det (fun i j => if i = 5 ∨ j = 5 then mx_dl i j else M i j + mx_dl 4 i * M 5 j + mx_dl 4 j * M i 5 + mx_dl 4 i * mx_dl 4 j * M 5 5) := by
  simp [mx_det, mx_t5, mx_t4, mx_t3, mx_t2, mx_dl]
  grind
theorem mx_i1 (M : Nat → Nat → Int) (b : Nat) (h1 : 1 ≤ b) (h5 : b ≤ 5) : mx_det (fun i j => M i j + mx_dl b i * mx_dl b j) = mx_det M + mx_det (fun i j => if i = b ∨ j = b then mx_dl i j else M i j) := by
  rcases (by omega : b = 1 ∨ b = 2 ∨ b = 3 ∨ b = 4 ∨ b = 5) with h | h | h | h | h <;> subst h
  · exact mx_i1_1 M
  · exact mx_i1_2 M
  · exact mx_i1_3 M
  · exact mx_i1_4 M
  · exact mx_i1_5 M
theorem mx_i2 (M : Nat → Nat → Int) (a b : Nat) (h1 : 1 ≤ a) (hab : a < b) (h5 : b ≤ 5) : mx_det (fun i j => M i j + (mx_dl a i - mx_dl b i) * (mx_dl a j - mx_dl b j)) = mx_det M + mx_det (fun i j => if i = b ∨ j = b then mx_dl i j else M i j + mx_dl a i * M b j + mx_dl a j * M i b + mx_dl a i * mx_dl a j * M b b) := by
  rcases (by omega : a = 1 ∨ a = 2 ∨ a = 3 ∨ a = 4) with ha | ha | ha | ha <;> subst ha
  · rcases (by omega : b = 2 ∨ b = 3 ∨ b = 4 ∨ b = 5) with h | h | h | h <;> subst h
    · exact mx_i2_12 M
    · exact mx_i2_13 M
    · exact mx_i2_14 M
    · exact mx_i2_15 M
  · rcases (by omega : b = 3 ∨ b = 4 ∨ b = 5) with h | h | h <;> subst h
    · exact mx_i2_23 M
    · exact mx_i2_24 M
    · exact mx_i2_25 M
  · rcases (by omega : b = 4 ∨ b = 5) with h | h <;> subst h
    · exact mx_i2_34 M
    · exact mx_i2_35 M
  · obtain rfl : b = 5 := by omega
    exact mx_i2_45 M
theorem mx_det_c {M N : Nat → Nat → Int} (h : ∀ i j, 1 ≤ i → i ≤ 5 → 1 ≤ j → j ≤ 5 → M i j = N i j) : mx_det M = mx_det N := by
  have r : ∀ i j, (1 ≤ i ∧ i ≤ 5 ∧ 1 ≤ j ∧ j ≤ 5) → M i j = N i j := fun i j q => h i j q.1 q.2.1 q.2.2.1 q.2.2.2
  unfold mx_det mx_t5 mx_t4 mx_t3 mx_t2
  simp only [r 1 1 (by decide), r 1 2 (by decide), r 1 3 (by decide), r 1 4 (by decide), r 1 5 (by decide),
    r 2 1 (by decide), r 2 2 (by decide), r 2 3 (by decide), r 2 4 (by decide), r 2 5 (by decide),
    r 3 1 (by decide), r 3 2 (by decide), r 3 3 (by decide), r 3 4 (by decide), r 3 5 (by decide),
    r 4 1 (by decide), r 4 2 (by decide), r 4 3 (by decide), r 4 4 (by decide), r 4 5 (by decide),
    r 5 1 (by decide), r 5 2 (by decide), r 5 3 (by decide), r 5 4 (by decide), r 5 5 (by decide)]
/-- the leading minors -/
theorem mx_p4 (M : Nat → Nat → Int) : mx_det (fun i j => if 4 < i ∨ 4 < j then mx_dl i j else M i j) = mx_t4 M 1 2 3 4 1 2 3 4 := by
  simp [mx_det, mx_t5, mx_t4, mx_t3, mx_t2, mx_dl]
theorem mx_p3 (M : Nat → Nat → Int) : mx_det (fun i j => if 3 < i ∨ 3 < j then mx_dl i j else M i j) = mx_t3 M 1 2 3 1 2 3 := by
  simp [mx_det, mx_t5, mx_t4, mx_t3, mx_t2, mx_dl]
theorem mx_p2 (M : Nat → Nat → Int) : mx_det (fun i j => if 2 < i ∨ 2 < j then mx_dl i j else M i j) = mx_t2 M 1 2 1 2 := by
  simp [mx_det, mx_t5, mx_t4, mx_t3, mx_t2, mx_dl]
theorem mx_p1 (M : Nat → Nat → Int) : mx_det (fun i j => if 1 < i ∨ 1 < j then mx_dl i j else M i j) = M 1 1 := by
  simp [mx_det, mx_t5, mx_t4, mx_t3, mx_t2, mx_dl]
/-- the matrix with some vertices taken out -/
def mx_gd (g : Nat → Bool) (L : Nat → Nat → Int) : Nat → Nat → Int := fun i j => if g i = true ∨ g j = true then mx_dl i j else L i j
theorem mx_gd0 (g : Nat → Bool) : mx_det (mx_gd g (fun _ _ => 0)) = if g 1 = true ∧ g 2 = true ∧ g 3 = true ∧ g 4 = true ∧ g 5 = true then 1 else 0 := by
  unfold mx_gd
  cases h1 : g 1 <;> cases h2 : g 2 <;> cases h3 : g 3 <;> cases h4 : g 4 <;> cases h5 : g 5 <;>
    simp [mx_det, mx_t5, mx_t4, mx_t3, mx_t2, mx_dl, h1, h2, h3, h4, h5]
theorem mx_dl_n {x i : Nat} (h : x ≠ i) : mx_dl x i = 0 := if_neg h
theorem mx_dl_s {x : Nat} : mx_dl x x = 1 := if_pos rfl
theorem mx_master {L L1 L2 : Nat → Nat → Int} {g g' : Nat → Bool} {a b : Nat} (hab : a < b) (hb : b ≤ 5) (hgb : g b = false) (hg0 : g 0 = true)
    (hg' : ∀ i, 1 ≤ i → i ≤ 5 → (g' i = true ↔ (g i = true ∨ i = b)))
    (h1 : ∀ i j, L1 i j = L i j + (mx_dl a i - mx_dl b i) * (mx_dl a j - mx_dl b j))
    (h2 : ∀ i j, i ≠ b → j ≠ b → L2 i j = L i j + mx_dl a i * L b j + mx_dl a j * L i b + mx_dl a i * mx_dl a j * L b b) :
    mx_det (mx_gd g L1) = mx_det (mx_gd g L) + mx_det (mx_gd g' L2) := by
  have nb : ∀ i, g i = true → mx_dl b i = 0 := fun i hi => mx_dl_n (fun q => by rw [← q, hgb] at hi; exact Bool.noConfusion hi)
  cases hga : g a with
  | true =>
    have na : ∀ i, ¬ g i = true → mx_dl a i = 0 := fun i hi => mx_dl_n (fun q => hi (q ▸ hga))
    have e1 : mx_det (mx_gd g L1) = mx_det (fun i j => mx_gd g L i j + mx_dl b i * mx_dl b j) := mx_det_c (fun i j _ _ _ _ => by
      unfold mx_gd
      by_cases z : g i = true ∨ g j = true
      · rw [if_pos z, if_pos z]
        rcases z with z | z
        · rw [nb i z]; simp
        · rw [nb j z]; simp
      · rw [if_neg z, if_neg z, h1, na i (fun q => z (Or.inl q)), na j (fun q => z (Or.inr q))]
        grind)
    have e2 : mx_det (fun i j => if i = b ∨ j = b then mx_dl i j else mx_gd g L i j) = mx_det (mx_gd g' L2) := mx_det_c (fun i j i1 i5 j1 j5 => by
      unfold mx_gd
      by_cases y : i = b ∨ j = b
      · have y' : g' i = true ∨ g' j = true := by
          rcases y with y | y
          · exact Or.inl ((hg' i i1 i5).mpr (Or.inr y))
          · exact Or.inr ((hg' j j1 j5).mpr (Or.inr y))
        rw [if_pos y, if_pos y']
      · rw [if_neg y]
        by_cases z : g i = true ∨ g j = true
        · have z' : g' i = true ∨ g' j = true := by
            rcases z with z | z
            · exact Or.inl ((hg' i i1 i5).mpr (Or.inl z))
            · exact Or.inr ((hg' j j1 j5).mpr (Or.inl z))
          rw [if_pos z, if_pos z']
        · have z' : ¬ (g' i = true ∨ g' j = true) := by
            intro q
            rcases q with q | q
            · rcases (hg' i i1 i5).mp q with r | r
              · exact z (Or.inl r)
              · exact y (Or.inl r)
            · rcases (hg' j j1 j5).mp q with r | r
              · exact z (Or.inr r)
              · exact y (Or.inr r)
          rw [if_neg z, if_neg z', h2 i j (fun q => y (Or.inl q)) (fun q => y (Or.inr q)), na i (fun q => z (Or.inl q)), na j (fun q => z (Or.inr q))]
          simp)
    rw [e1, mx_i1 _ b (by omega) hb, e2]
  | false =>
    have a1 : 1 ≤ a := by
      rcases Nat.eq_zero_or_pos a with q | q
      · rw [q, hg0] at hga; exact Bool.noConfusion hga
      · exact q
    have na : ∀ i, g i = true → mx_dl a i = 0 := fun i hi => mx_dl_n (fun q => by rw [← q, hga] at hi; exact Bool.noConfusion hi)
    have e1 : mx_det (mx_gd g L1) = mx_det (fun i j => mx_gd g L i j + (mx_dl a i - mx_dl b i) * (mx_dl a j - mx_dl b j)) := mx_det_c (fun i j _ _ _ _ => by
      unfold mx_gd
      by_cases z : g i = true ∨ g j = true
      · rw [if_pos z, if_pos z]
        rcases z with z | z
        · rw [nb i z, na i z]; simp
        · rw [nb j z, na j z]; simp
      · rw [if_neg z, if_neg z, h1])
    have e2 : mx_det (fun i j => if i = b ∨ j = b then mx_dl i j else mx_gd g L i j + mx_dl a i * mx_gd g L b j + mx_dl a j * mx_gd g L i b + mx_dl a i * mx_dl a j * mx_gd g L b b) = mx_det (mx_gd g' L2) := mx_det_c (fun i j i1 i5 j1 j5 => by
      unfold mx_gd
      by_cases y : i = b ∨ j = b
      · have y' : g' i = true ∨ g' j = true := by
          rcases y with y | y
          · exact Or.inl ((hg' i i1 i5).mpr (Or.inr y))
          · exact Or.inr ((hg' j j1 j5).mpr (Or.inr y))
        rw [if_pos y, if_pos y']
      · rw [if_neg y]
        have dbi : mx_dl i b = 0 := mx_dl_n (fun q => y (Or.inl q))
        have dbj : mx_dl b j = 0 := mx_dl_n (fun q => y (Or.inr q.symm))
        by_cases z : g i = true ∨ g j = true
        · have z' : g' i = true ∨ g' j = true := by
            rcases z with z | z
            · exact Or.inl ((hg' i i1 i5).mpr (Or.inl z))
            · exact Or.inr ((hg' j j1 j5).mpr (Or.inl z))
          rw [if_pos z, if_pos z']
          have zi : g i = true → (if g i = true ∨ g b = true then mx_dl i b else L i b) = 0 := fun q => by rw [if_pos (Or.inl q), dbi]
          have zj : g j = true → (if g b = true ∨ g j = true then mx_dl b j else L b j) = 0 := fun q => by rw [if_pos (Or.inr q), dbj]
          rcases z with z | z
          · rw [na i z, zi z]; simp
          · rw [na j z, zj z]; simp
        · have gi : ¬ g i = true := fun q => z (Or.inl q)
          have gj : ¬ g j = true := fun q => z (Or.inr q)
          have gb : ¬ g b = true := by rw [hgb]; exact Bool.noConfusion
          have z' : ¬ (g' i = true ∨ g' j = true) := by
            intro q
            rcases q with q | q
            · rcases (hg' i i1 i5).mp q with r | r
              · exact gi r
              · exact y (Or.inl r)
            · rcases (hg' j j1 j5).mp q with r | r
              · exact gj r
              · exact y (Or.inr r)
          rw [if_neg z, if_neg z', if_neg (fun q => q.elim gb gj), if_neg (fun q => q.elim gi gb), if_neg (fun q => q.elim gb gb), h2 i j (fun q => y (Or.inl q)) (fun q => y (Or.inr q))])
    rw [e1, mx_i2 _ a b a1 hab hb, e2]
end
section
/-! ===== the matrix of edge counts over labels, and the number of trees ===== -/
/-- the matrix of the edges below k of mask s over the labels q -/
def mx_lp (A B : Nat → Nat) (s : Nat) (q : Nat → Nat) : Nat → Nat → Nat → Int
  | 0 => fun _ _ => 0
  | k + 1 => fun i j => mx_lp A B s q k i j + (if s.testBit k = true then (mx_dl (q (A k)) i - mx_dl (q (B k)) i) * (mx_dl (q (A k)) j - mx_dl (q (B k)) j) else 0)
/-- the labels with hi turned to lo -/
def mx_mr (q : Nat → Nat) (lo hi : Nat) : Nat → Nat := fun v => if q v = hi then lo else q v
def mx_mg (q : Nat → Nat) (x y : Nat) : Nat → Nat := mx_mr q (min (q x) (q y)) (max (q x) (q y))
/-- no row of the matrix: no label of q, or a label of r -/
def mx_g (q r : Nat → Nat) : Nat → Bool := fun v => decide (q v ≠ v ∨ r v = v)
/-- the trees, by leaving out and taking in -/
def mx_nf (A B : Nat → Nat) (s : Nat) (r : Nat → Nat) : Nat → (Nat → Nat) → Nat
  | 0 => fun q => if mx_g q r 1 = true ∧ mx_g q r 2 = true ∧ mx_g q r 3 = true ∧ mx_g q r 4 = true ∧ mx_g q r 5 = true then 1 else 0
  | k + 1 => fun q => mx_nf A B s r k q + (if s.testBit k = true ∧ q (A k) ≠ q (B k) then mx_nf A B s r k (mx_mg q (A k) (B k)) else 0)
section
variable {A B : Nat → Nat} {s : Nat} {q r : Nat → Nat}
theorem mx_mr_dl {lo hi x i : Nat} (hi' : i ≠ hi) : mx_dl (mx_mr q lo hi x) i = mx_dl (q x) i + mx_dl lo i * mx_dl (q x) hi := by
  unfold mx_mr
  by_cases z : q x = hi
  · rw [if_pos z, z, mx_dl_n (Ne.symm hi'), mx_dl_s]; simp
  · rw [if_neg z, mx_dl_n z]; simp
theorem mx_lp_mr (lo hi : Nat) : ∀ (k i j : Nat), i ≠ hi → j ≠ hi → mx_lp A B s (mx_mr q lo hi) k i j =
    mx_lp A B s q k i j + mx_dl lo i * mx_lp A B s q k hi j + mx_dl lo j * mx_lp A B s q k i hi + mx_dl lo i * mx_dl lo j * mx_lp A B s q k hi hi := by
  intro k
  induction k with
  | zero => intro i j _ _; show (0 : Int) = 0 + _ * 0 + _ * 0 + _ * 0; simp
  | succ k ih =>
    intro i j h1 h2
    show mx_lp A B s (mx_mr q lo hi) k i j + _ = (mx_lp A B s q k i j + _) + mx_dl lo i * (mx_lp A B s q k hi j + _) + mx_dl lo j * (mx_lp A B s q k i hi + _) + mx_dl lo i * mx_dl lo j * (mx_lp A B s q k hi hi + _)
    rw [ih i j h1 h2, mx_mr_dl h1, mx_mr_dl h1, mx_mr_dl h2, mx_mr_dl h2]
    by_cases z : s.testBit k = true
    · simp only [if_pos z]; grind
    · simp only [if_neg z]; grind
theorem mx_lp_sy : ∀ (k i j : Nat), mx_lp A B s q k i j = mx_lp A B s q k j i := by
  intro k
  induction k with
  | zero => intro i j; rfl
  | succ k ih =>
    intro i j
    show mx_lp A B s q k i j + _ = mx_lp A B s q k j i + _
    rw [ih i j, Int.mul_comm]
/-- what labels must keep: each is the least of its part, and r is coarser -/
def mx_H (q r : Nat → Nat) : Prop := ∀ v, v < 6 → q v ≤ v ∧ q (q v) = q v ∧ r (q v) = r v ∧ r v ≤ v
theorem mx_H_mr {lo hi : Nat} (h : mx_H q r) (hl : q lo = lo) (hh : q hi = hi) (hlt : lo < hi) (h6 : hi < 6) (hr : r lo = r hi) : mx_H (mx_mr q lo hi) r := by
  intro v hv
  obtain ⟨h1, h2, h3, h4⟩ := h v hv
  unfold mx_mr
  by_cases z : q v = hi
  · rw [if_pos z, if_neg (by omega : ¬ q lo = hi)]
    rw [z] at h1 h3
    exact ⟨by omega, hl, hr.trans h3, h4⟩
  · rw [if_neg z, if_neg (by rw [h2]; exact z)]
    exact ⟨h1, h2, h3, h4⟩
theorem mx_mg_lab {x y : Nat} (h : mx_H q r) (hx : x < 6) (hy : y < 6) (hne : q x ≠ q y) :
    min (q x) (q y) < max (q x) (q y) ∧ max (q x) (q y) < 6 ∧ q (min (q x) (q y)) = min (q x) (q y) ∧ q (max (q x) (q y)) = max (q x) (q y) := by
  have hx' := h x hx
  have hy' := h y hy
  rcases Nat.lt_or_ge (q x) (q y) with z | z
  · rw [Nat.min_eq_left (by omega), Nat.max_eq_right (by omega)]
    exact ⟨z, by omega, hx'.2.1, hy'.2.1⟩
  · rw [Nat.min_eq_right (by omega), Nat.max_eq_left (by omega)]
    exact ⟨by omega, by omega, hy'.2.1, hx'.2.1⟩
theorem mx_dl_mm (x y i j : Nat) : (mx_dl (min x y) i - mx_dl (max x y) i) * (mx_dl (min x y) j - mx_dl (max x y) j) = (mx_dl x i - mx_dl y i) * (mx_dl x j - mx_dl y j) := by
  rcases Nat.lt_or_ge x y with z | z
  · rw [Nat.min_eq_left (by omega), Nat.max_eq_right (by omega)]
  · rw [Nat.min_eq_right (by omega), Nat.max_eq_left (by omega)]
    grind
/-- the determinant counts the trees -/
theorem mx_dc : ∀ (k : Nat) (q : Nat → Nat), mx_H q r → (∀ e, e < k → s.testBit e = true → A e < 6 ∧ B e < 6 ∧ r (A e) = r (B e)) →
    mx_det (mx_gd (mx_g q r) (mx_lp A B s q k)) = (mx_nf A B s r k q : Int) := by
  intro k
  induction k with
  | zero =>
    intro q _ _
    have e : mx_lp A B s q 0 = fun _ _ => 0 := rfl
    rw [e, mx_gd0]
    show _ = ((if mx_g q r 1 = true ∧ mx_g q r 2 = true ∧ mx_g q r 3 = true ∧ mx_g q r 4 = true ∧ mx_g q r 5 = true then 1 else 0 : Nat) : Int)
    split <;> rfl
  | succ k ih =>
    intro q hH hE
    have hE' : ∀ e, e < k → s.testBit e = true → A e < 6 ∧ B e < 6 ∧ r (A e) = r (B e) := fun e he => hE e (Nat.lt_succ_of_lt he)
    show _ = ((mx_nf A B s r k q + (if s.testBit k = true ∧ q (A k) ≠ q (B k) then mx_nf A B s r k (mx_mg q (A k) (B k)) else 0) : Nat) : Int)
    by_cases z : s.testBit k = true ∧ q (A k) ≠ q (B k)
    · obtain ⟨z1, z2⟩ := z
      obtain ⟨hA, hB, hr⟩ := hE k (Nat.lt_succ_self k) z1
      obtain ⟨m1, m2, m3, m4⟩ := mx_mg_lab hH hA hB z2
      have hrl : r (min (q (A k)) (q (B k))) = r (max (q (A k)) (q (B k))) := by
        have a1 := (hH _ hA).2.2.1
        have a2 := (hH _ hB).2.2.1
        rcases Nat.lt_or_ge (q (A k)) (q (B k)) with y | y
        · rw [Nat.min_eq_left (by omega), Nat.max_eq_right (by omega), a1, a2, hr]
        · rw [Nat.min_eq_right (by omega), Nat.max_eq_left (by omega), a1, a2, hr]
      rw [if_pos ⟨z1, z2⟩]
      have h0 := hH 0 (by omega)
      have hlo := hH (min (q (A k)) (q (B k))) (by omega)
      have st : mx_det (mx_gd (mx_g q r) (mx_lp A B s q (k + 1))) = mx_det (mx_gd (mx_g q r) (mx_lp A B s q k)) + mx_det (mx_gd (mx_g (mx_mg q (A k) (B k)) r) (mx_lp A B s (mx_mg q (A k) (B k)) k)) := by
        refine mx_master (a := min (q (A k)) (q (B k))) (b := max (q (A k)) (q (B k))) m1 (by omega) ?_ ?_ ?_ ?_ ?_
        · unfold mx_g
          refine decide_eq_false (fun w => ?_)
          rcases w with w | w
          · exact w m4
          · omega
        · unfold mx_g
          exact decide_eq_true (Or.inr (by omega))
        · intro i i1 i5
          have hi := hH i (by omega)
          unfold mx_g mx_mg mx_mr
          rw [decide_eq_true_eq, decide_eq_true_eq]
          by_cases y : q i = max (q (A k)) (q (B k))
          · rw [if_pos y]
            constructor
            · intro w
              by_cases u : i = max (q (A k)) (q (B k))
              · exact Or.inr u
              · exact Or.inl (Or.inl (fun t => u (t.symm.trans y)))
            · intro w
              refine Or.inl (fun t => ?_)
              rw [← t, m3] at y
              omega
          · rw [if_neg y]
            constructor
            · exact Or.inl
            · intro w
              rcases w with w | w
              · exact w
              · rw [w, m4] at y
                exact absurd rfl y
        · intro i j
          rw [mx_dl_mm]
          show mx_lp A B s q k i j + (if s.testBit k = true then _ else 0) = _
          rw [if_pos z1]
        · intro i j hi hj
          exact mx_lp_mr _ _ k i j hi hj
      rw [st, ih q hH hE', ih (mx_mg q (A k) (B k)) (mx_H_mr hH m3 m4 m1 m2 hrl) hE']
      exact (Int.natCast_add _ _).symm
    · rw [if_neg z]
      refine Eq.trans (mx_det_c (fun i j _ _ _ _ => ?_)) (ih q hH hE')
      have e : mx_lp A B s q (k + 1) i j = mx_lp A B s q k i j := by
        show mx_lp A B s q k i j + (if s.testBit k = true then _ else 0) = _
        by_cases y : s.testBit k = true
        · have y2 : q (A k) = q (B k) := Classical.byContradiction (fun t => z ⟨y, t⟩)
          rw [if_pos y, y2]
          simp
        · rw [if_neg y]; simp
      unfold mx_gd
      rw [e]
/-- there is a tree when everything hangs together -/
theorem mx_pos : ∀ (k : Nat) (q : Nat → Nat), mx_H q r → (∀ e, e < k → s.testBit e = true → A e < 6 ∧ B e < 6 ∧ r (A e) = r (B e)) →
    (∀ f : Nat → Nat, (∀ v, v < 6 → f (q v) = f v) → (∀ e, e < k → s.testBit e = true → f (A e) = f (B e)) → ∀ v, v < 6 → f (r v) = f v) →
    0 < mx_nf A B s r k q := by
  intro k
  induction k with
  | zero =>
    intro q hH _ hc
    have key : ∀ v, v < 6 → mx_g q r v = true := by
      intro v hv
      unfold mx_g
      refine decide_eq_true ?_
      by_cases z : q v = v
      · have h1 := hc q (fun v hv => (hH v hv).2.1) (fun e he => absurd he (Nat.not_lt_zero _)) v hv
        have h2 := hH v hv
        have h3 := hH (r v) (by omega)
        exact Or.inr (by omega)
      · exact Or.inl z
    show 0 < (if mx_g q r 1 = true ∧ mx_g q r 2 = true ∧ mx_g q r 3 = true ∧ mx_g q r 4 = true ∧ mx_g q r 5 = true then 1 else 0)
    rw [if_pos ⟨key 1 (by omega), key 2 (by omega), key 3 (by omega), key 4 (by omega), key 5 (by omega)⟩]
    exact Nat.one_pos
  | succ k ih =>
    intro q hH hE hc
    have hE' : ∀ e, e < k → s.testBit e = true → A e < 6 ∧ B e < 6 ∧ r (A e) = r (B e) := fun e he => hE e (Nat.lt_succ_of_lt he)
    show 0 < mx_nf A B s r k q + (if s.testBit k = true ∧ q (A k) ≠ q (B k) then mx_nf A B s r k (mx_mg q (A k) (B k)) else 0)
    by_cases z : s.testBit k = true ∧ q (A k) ≠ q (B k)
    · obtain ⟨z1, z2⟩ := z
      obtain ⟨hA, hB, hr⟩ := hE k (Nat.lt_succ_self k) z1
      obtain ⟨m1, m2, m3, m4⟩ := mx_mg_lab hH hA hB z2
      have hrl : r (min (q (A k)) (q (B k))) = r (max (q (A k)) (q (B k))) := by
        have a1 := (hH _ hA).2.2.1
        have a2 := (hH _ hB).2.2.1
        rcases Nat.lt_or_ge (q (A k)) (q (B k)) with y | y
        · rw [Nat.min_eq_left (by omega), Nat.max_eq_right (by omega), a1, a2, hr]
        · rw [Nat.min_eq_right (by omega), Nat.max_eq_left (by omega), a1, a2, hr]
      rw [if_pos ⟨z1, z2⟩]
      have hAB : mx_mg q (A k) (B k) (A k) = mx_mg q (A k) (B k) (B k) := by
        unfold mx_mg mx_mr
        rcases Nat.lt_or_ge (q (A k)) (q (B k)) with y | y
        · rw [Nat.min_eq_left (by omega), Nat.max_eq_right (by omega), if_neg (by omega), if_pos rfl]
        · rw [Nat.min_eq_right (by omega), Nat.max_eq_left (by omega), if_pos rfl, if_neg (by omega)]
      have := ih (mx_mg q (A k) (B k)) (mx_H_mr hH m3 m4 m1 m2 hrl) hE' (fun f hf he v hv => by
        refine hc f (fun u hu => ?_) (fun e hek hes => ?_) v hv
        · have b1 : mx_mg q (A k) (B k) (q u) = mx_mg q (A k) (B k) u := by
            unfold mx_mg mx_mr
            rw [(hH u hu).2.1]
          rw [← hf (q u) (by have := hH u hu; omega), b1, hf u hu]
        · by_cases t : e = k
          · subst t
            rw [← hf (A e) hA, hAB, hf (B e) hB]
          · exact he e (by omega) hes)
      omega
    · rw [if_neg z, Nat.add_zero]
      refine ih q hH hE' (fun f hf he v hv => hc f hf (fun e hek hes => ?_) v hv)
      by_cases t : e = k
      · subst t
        obtain ⟨hA, hB, hr⟩ := hE e (Nat.lt_succ_self e) hes
        have t2 : q (A e) = q (B e) := Classical.byContradiction (fun t => z ⟨hes, t⟩)
        rw [← hf _ hA, t2, hf _ hB]
      · exact he e (by omega) hes
end
end
section
/-! ===== labels of parts; counting the bases; the minors ===== -/
noncomputable def gx_b (p : Prop) : Nat := @ite Nat p (Classical.propDecidable p) 1 0
theorem gx_b_t {p : Prop} (h : p) : gx_b p = 1 := @if_pos p (Classical.propDecidable p) h Nat 1 0
theorem gx_b_f {p : Prop} (h : ¬ p) : gx_b p = 0 := @if_neg p (Classical.propDecidable p) h Nat 1 0
theorem gx_b_c {p q : Prop} (h : p ↔ q) : gx_b p = gx_b q := by rw [propext h]
theorem gx_b_le (p : Prop) : gx_b p ≤ 1 := by
  by_cases h : p
  · rw [gx_b_t h]; exact Nat.le_refl _
  · rw [gx_b_f h]; exact Nat.zero_le _
/-- q labels the parts of S -/
def gx_lb (A B : Nat → Nat) (S : Nat → Prop) (q : Nat → Nat) : Prop := ∀ v, v < 6 → q v < 6 ∧ gx_cn A B S v (q v) ∧ ∀ u, u < 6 → gx_cn A B S u v → q u = q v
def gx_ll (q : Nat → Nat) : Prop := ∀ v, v < 6 → q v ≤ v
section
variable {A B q r : Nat → Nat} {S T : Nat → Prop} {s e x y u v : Nat}
theorem gx_lb_iff (h : gx_lb A B S q) (hu : u < 6) (hv : v < 6) : q u = q v ↔ gx_cn A B S u v :=
  ⟨fun z => gx_tr (h u hu).2.1 (z ▸ gx_sy (h v hv).2.1), fun c => (h v hv).2.2 u hu c⟩
theorem gx_lb_0 (h : ∀ e, ¬ S e) (hq : ∀ v, v < 6 → q v = v) : gx_lb A B S q := by
  intro v hv
  refine ⟨by rw [hq v hv]; exact hv, by rw [hq v hv]; exact gx_rf, fun u hu c => ?_⟩
  rw [gx_none h c]
theorem gx_lb_c (h : gx_lb A B S q) (hs : ∀ e, S e ↔ T e) : gx_lb A B T q := by
  have e : S = T := funext (fun j => propext (hs j))
  exact e ▸ h
theorem gx_lb_q {q' : Nat → Nat} (h : gx_lb A B S q) (hq : ∀ v, v < 6 → q' v = q v) : gx_lb A B S q' := by
  intro v hv
  rw [hq v hv]
  exact ⟨(h v hv).1, (h v hv).2.1, fun u hu c => by rw [hq u hu]; exact (h v hv).2.2 u hu c⟩
theorem gx_lb_mr (h : gx_lb A B S q) (hx : x < 6) (hy : y < 6) (hxy : (x = A e ∧ y = B e) ∨ (x = B e ∧ y = A e)) :
    gx_lb A B (fun j => S j ∨ j = e) (mx_mr q (q x) (q y)) := by
  have up : ∀ {a b : Nat}, gx_cn A B S a b → gx_cn A B (fun j => S j ∨ j = e) a b := fun c => gx_mono (fun _ => Or.inl) c
  have ed : gx_cn A B (fun j => S j ∨ j = e) (A e) (B e) := gx_ed (Or.inr rfl)
  have exy : gx_cn A B (fun j => S j ∨ j = e) y x := by
    rcases hxy with ⟨h1, h2⟩ | ⟨h1, h2⟩
    · rw [h1, h2]; exact gx_sy ed
    · rw [h1, h2]; exact ed
  have hA : mx_mr q (q x) (q y) x = q x ∧ mx_mr q (q x) (q y) y = q x := by
    unfold mx_mr
    constructor
    · split <;> rfl
    · rw [if_pos rfl]
  have hAB : mx_mr q (q x) (q y) (A e) = q x ∧ mx_mr q (q x) (q y) (B e) = q x := by
    rcases hxy with ⟨h1, h2⟩ | ⟨h1, h2⟩
    · rw [← h1, ← h2]; exact hA
    · rw [← h1, ← h2]; exact ⟨hA.2, hA.1⟩
  have h6 : A e < 6 ∧ B e < 6 := by
    rcases hxy with ⟨h1, h2⟩ | ⟨h1, h2⟩
    · exact ⟨h1 ▸ hx, h2 ▸ hy⟩
    · exact ⟨h2 ▸ hy, h1 ▸ hx⟩
  have sm : ∀ a b, q a = q b → mx_mr q (q x) (q y) a = mx_mr q (q x) (q y) b := by
    intro a b hab
    unfold mx_mr
    rw [hab]
  intro v hv
  refine ⟨?_, ?_, ?_⟩
  · unfold mx_mr
    split
    · exact (h x hx).1
    · exact (h v hv).1
  · unfold mx_mr
    by_cases z : q v = q y
    · rw [if_pos z]
      exact gx_tr (up ((gx_lb_iff h hv hy).mp z)) (gx_tr exy (up (h x hx).2.1))
    · rw [if_neg z]
      exact up (h v hv).2.1
  · intro u hu c
    rcases gx_add c with c | c | c
    · exact sm u v ((gx_lb_iff h hu hv).mpr c)
    · rw [sm u (A e) ((gx_lb_iff h hu h6.1).mpr c.1), sm v (B e) ((gx_lb_iff h h6.2 hv).mpr c.2).symm, hAB.1, hAB.2]
    · rw [sm u (B e) ((gx_lb_iff h hu h6.2).mpr c.1), sm v (A e) ((gx_lb_iff h h6.1 hv).mpr c.2).symm, hAB.1, hAB.2]
theorem gx_lb_mg (h : gx_lb A B S q) (hA : A e < 6) (hB : B e < 6) : gx_lb A B (fun j => S j ∨ j = e) (mx_mg q (A e) (B e)) := by
  unfold mx_mg
  rcases Nat.lt_or_ge (q (A e)) (q (B e)) with z | z
  · rw [Nat.min_eq_left (by omega), Nat.max_eq_right (by omega)]
    exact gx_lb_mr h hA hB (Or.inl ⟨rfl, rfl⟩)
  · rw [Nat.min_eq_right (by omega), Nat.max_eq_left (by omega)]
    exact gx_lb_mr h hB hA (Or.inr ⟨rfl, rfl⟩)
theorem gx_ll_mg (h : gx_ll q) (x y : Nat) : gx_ll (mx_mg q x y) := by
  intro v hv
  have := h v hv
  unfold mx_mg mx_mr
  split
  · omega
  · exact this
theorem gx_lb_u (h : gx_lb A B S q) (hl : gx_ll q) (h' : gx_lb A B S r) (hl' : gx_ll r) (hv : v < 6) : q v = r v := by
  have h1 := (h' v hv).2.2 (q v) (h v hv).1 (gx_sy (h v hv).2.1)
  have h2 := hl' (q v) (h v hv).1
  have h3 := (h v hv).2.2 (r v) (h' v hv).1 (gx_sy (h' v hv).2.1)
  have h4 := hl (r v) (h' v hv).1
  omega
theorem gx_lb_H (h : gx_lb A B S q) (hl : gx_ll q) (h' : gx_lb A B T r) (hl' : gx_ll r) (hs : ∀ e, S e → T e) : mx_H q r := by
  intro v hv
  exact ⟨hl v hv, (h v hv).2.2 (q v) (h v hv).1 (gx_sy (h v hv).2.1), (h' v hv).2.2 (q v) (h v hv).1 (gx_mono hs (gx_sy (h v hv).2.1)), hl' v hv⟩
theorem gx_lb_i (h : gx_lb A B S q) (hv : v < 6) : q (q v) = q v := (h v hv).2.2 (q v) (h v hv).1 (gx_sy (h v hv).2.1)
/-- the mask m is a base of the edges of s over S -/
def gx_BA (A B : Nat → Nat) (s : Nat) (S : Nat → Prop) (m : Nat) : Prop :=
  (∀ j, gx_bs m j → gx_bs s j ∧ ¬ gx_cl A B (fun i => S i ∨ (gx_bs m i ∧ j < i)) j) ∧ ∀ j, gx_bs s j → gx_cl A B (fun i => S i ∨ gx_bs m i) j
theorem gx_bs0 (j : Nat) : ¬ gx_bs 0 j := by
  unfold gx_bs
  rw [Nat.zero_testBit]
  exact Bool.noConfusion
theorem gx_bsP {m k : Nat} (hm : m < 2 ^ k) : gx_bs (2 ^ k + m) = fun j => gx_bs m j ∨ j = k := by
  have e : 2 ^ k + m = 2 ^ k ||| m := by
    have := Nat.two_pow_add_eq_or_of_lt (i := k) hm 1
    rw [Nat.mul_one] at this
    exact this
  funext j
  unfold gx_bs
  rw [e, Nat.testBit_or, Nat.testBit_two_pow, Bool.or_eq_true, decide_eq_true_eq, eq_comm (a := k)]
  exact propext Or.comm
theorem gx_bsk {m k j : Nat} (hm : m < 2 ^ k) (h : gx_bs m j) : j < k := by
  refine Classical.byContradiction (fun n => ?_)
  have : m.testBit j = false := Nat.testBit_lt_two_pow (Nat.lt_of_lt_of_le hm (Nat.pow_le_pow_right (by decide) (by omega)))
  unfold gx_bs at h
  rw [this] at h
  exact Bool.noConfusion h
theorem gx_BA_s {m k : Nat} (hm : m < 2 ^ k) : gx_BA A B s S (2 ^ k + m) ↔ gx_bs s k ∧ ¬ gx_cl A B S k ∧ gx_BA A B s (fun i => S i ∨ i = k) m := by
  unfold gx_BA
  rw [gx_bsP hm]
  constructor
  · intro h
    refine ⟨(h.1 k (Or.inr rfl)).1, fun c => (h.1 k (Or.inr rfl)).2 (gx_cmono (fun _ => Or.inl) c), fun j hj => ⟨(h.1 j (Or.inl hj)).1, fun c => (h.1 j (Or.inl hj)).2 (gx_cmono (fun i hi => ?_) c)⟩, fun j hj => gx_cmono (fun i hi => ?_) (h.2 j hj)⟩
    · have hjk := gx_bsk hm hj
      rcases hi with (hi | hi) | hi
      · exact Or.inl hi
      · exact Or.inr ⟨Or.inr hi, by omega⟩
      · exact Or.inr ⟨Or.inl hi.1, hi.2⟩
    · rcases hi with hi | hi | hi
      · exact Or.inl (Or.inl hi)
      · exact Or.inr hi
      · exact Or.inl (Or.inr hi)
  · intro h
    refine ⟨fun j hj => ?_, fun j hj => gx_cmono (fun i hi => ?_) (h.2.2.2 j hj)⟩
    · rcases hj with hj | hj
      · refine ⟨(h.2.2.1 j hj).1, fun c => (h.2.2.1 j hj).2 (gx_cmono (fun i hi => ?_) c)⟩
        rcases hi with hi | ⟨hi | hi, hlt⟩
        · exact Or.inl (Or.inl hi)
        · exact Or.inr ⟨hi, hlt⟩
        · exact Or.inl (Or.inr hi)
      · subst hj
        refine ⟨h.1, fun c => h.2.1 (gx_cmono (fun i hi => ?_) c)⟩
        rcases hi with hi | ⟨hi | hi, hlt⟩
        · exact hi
        · have := gx_bsk hm hi
          omega
        · omega
    · rcases hi with (hi | hi) | hi
      · exact Or.inl hi
      · exact Or.inr (Or.inr hi)
      · exact Or.inr (Or.inl hi)
theorem gx_cnt (hT : gx_lb A B T r) (hTl : gx_ll r) (h6 : ∀ e, gx_bs s e → A e < 6 ∧ B e < 6) : ∀ (k : Nat) (q : Nat → Nat) (S : Nat → Prop),
    gx_lb A B S q → gx_ll q → (∀ i, T i ↔ (S i ∨ gx_bs s i)) → mx_nf A B s r k q = gx_sm (fun m => gx_b (gx_BA A B s S m)) (2 ^ k) := by
  intro k
  induction k with
  | zero =>
    intro q S hq hl hS
    have hH := gx_lb_H hq hl hT hTl (fun e he => (hS e).mpr (Or.inl he))
    show (if mx_g q r 1 = true ∧ mx_g q r 2 = true ∧ mx_g q r 3 = true ∧ mx_g q r 4 = true ∧ mx_g q r 5 = true then 1 else 0) = 0 + gx_b (gx_BA A B s S 0)
    by_cases z : gx_BA A B s S 0
    · rw [gx_b_t z]
      have hT' : gx_lb A B T q := by
        intro v hv
        refine ⟨(hq v hv).1, gx_mono (fun e he => (hS e).mpr (Or.inl he)) (hq v hv).2.1, fun u hu c => (hq v hv).2.2 u hu (gx_lift (fun e he => ?_) c)⟩
        rcases (hS e).mp he with y | y
        · exact gx_ed y
        · exact gx_mono (fun i hi => hi.elim id (fun t => absurd t (gx_bs0 i))) (z.2 e y)
      have key : ∀ v, v < 6 → mx_g q r v = true := by
        intro v hv
        refine decide_eq_true ?_
        rw [gx_lb_u hT hTl hT' hl hv]
        exact (Decidable.em (q v = v)).symm
      rw [if_pos ⟨key 1 (by omega), key 2 (by omega), key 3 (by omega), key 4 (by omega), key 5 (by omega)⟩]
    · rw [gx_b_f z]
      refine if_neg (fun g => z ⟨fun j hj => absurd hj (gx_bs0 j), fun j hj => ?_⟩)
      have key : ∀ v, v < 6 → q v = v → r v = v := by
        intro v hv hvv
        have gv : mx_g q r v = true := by
          rcases (by omega : v = 0 ∨ v = 1 ∨ v = 2 ∨ v = 3 ∨ v = 4 ∨ v = 5) with t | t | t | t | t | t
          · refine decide_eq_true (Or.inr ?_)
            have := hTl v hv
            omega
          · rw [t]; exact g.1
          · rw [t]; exact g.2.1
          · rw [t]; exact g.2.2.1
          · rw [t]; exact g.2.2.2.1
          · rw [t]; exact g.2.2.2.2
        rcases of_decide_eq_true gv with t | t
        · exact absurd hvv t
        · exact t
      obtain ⟨ha, hb⟩ := h6 j hj
      have e1 := hH _ ha
      have e2 := hH _ hb
      have c1 := key (q (A j)) (by omega) e1.2.1
      have c2 := key (q (B j)) (by omega) e2.2.1
      have c3 : r (A j) = r (B j) := (gx_lb_iff hT ha hb).mpr (gx_ed ((hS j).mpr (Or.inr hj)))
      exact gx_cmono (fun i hi => Or.inl hi) ((gx_lb_iff hq ha hb).mp (by omega))
  | succ k ih =>
    intro q S hq hl hS
    have e2 : 2 ^ (k + 1) = 2 ^ k + 2 ^ k := by rw [Nat.pow_succ]; omega
    show mx_nf A B s r k q + (if s.testBit k = true ∧ q (A k) ≠ q (B k) then mx_nf A B s r k (mx_mg q (A k) (B k)) else 0) = _
    rw [e2, gx_sm_add, ← ih q S hq hl hS]
    refine congrArg (mx_nf A B s r k q + ·) ?_
    by_cases z : s.testBit k = true ∧ q (A k) ≠ q (B k)
    · obtain ⟨ha, hb⟩ := h6 k z.1
      rw [if_pos z, ih (mx_mg q (A k) (B k)) (fun i => S i ∨ i = k) (gx_lb_mg hq ha hb) (gx_ll_mg hl _ _) (fun i => ?_)]
      · refine gx_sm_c _ (fun m hm => gx_b_c ?_)
        rw [gx_BA_s hm]
        exact ⟨fun h => ⟨z.1, fun c => z.2 ((gx_lb_iff hq ha hb).mpr c), h⟩, fun h => h.2.2⟩
      · rw [hS i]
        constructor
        · exact fun h => h.elim (fun t => Or.inl (Or.inl t)) Or.inr
        · intro h
          rcases h with (h | h) | h
          · exact Or.inl h
          · exact Or.inr (h ▸ z.1)
          · exact Or.inr h
    · rw [if_neg z]
      refine (gx_sm_0 _ (fun m hm => gx_b_f (fun h => ?_))).symm
      rw [gx_BA_s hm] at h
      obtain ⟨ha, hb⟩ := h6 k h.1
      exact z ⟨h.1, fun t => h.2.1 ((gx_lb_iff hq ha hb).mp t)⟩
theorem mx_lp_c {q' : Nat → Nat} {i j : Nat} (hi : ∀ x, mx_dl (q x) i = mx_dl (q' x) i) (hj : ∀ x, mx_dl (q x) j = mx_dl (q' x) j) : ∀ k, mx_lp A B s q k i j = mx_lp A B s q' k i j := by
  intro k
  induction k with
  | zero => rfl
  | succ k ih =>
    show mx_lp A B s q k i j + _ = mx_lp A B s q' k i j + _
    rw [ih, hi, hi, hj, hj]
/-- leading minors count trees too -/
theorem mx_minor (c k : Nat) (hH : mx_H q r) (hrr : ∀ v, v < 6 → r (r v) = r v) (hE : ∀ e, e < k → s.testBit e = true → A e < 6 ∧ B e < 6 ∧ r (A e) = r (B e))
    (hc : ∀ f : Nat → Nat, (∀ v, v < 6 → f (q v) = f v) → (∀ e, e < k → s.testBit e = true → f (A e) = f (B e)) → ∀ v, v < 6 → f (r v) = f v) :
    0 < mx_det (fun i j => if c < i ∨ c < j then mx_dl i j else mx_gd (mx_g q r) (mx_lp A B s q k) i j) := by
  have hx : ∃ q' : Nat → Nat, ∀ v, q' v = if r (q v) = q v ∨ c < q v then 0 else q v := ⟨fun v => if r (q v) = q v ∨ c < q v then 0 else q v, fun _ => rfl⟩
  obtain ⟨q', hq'⟩ := hx
  have q0 : q 0 = 0 := by have := hH 0 (by omega); omega
  have r0 : r 0 = 0 := by have := hH 0 (by omega); omega
  have q'0 : q' 0 = 0 := by rw [hq', if_pos (Or.inl (by rw [q0, r0]))]
  have q'q : ∀ v, v < 6 → q' (q v) = q' v := fun v hv => by rw [hq', hq', (hH v hv).2.1]
  have hH' : mx_H q' (fun _ => 0) := by
    intro v hv
    have h := hH v hv
    refine ⟨?_, ?_, rfl, Nat.zero_le _⟩
    · rw [hq']; split <;> omega
    · by_cases z : r (q v) = q v ∨ c < q v
      · rw [hq' v, if_pos z]; exact q'0
      · rw [hq' v, if_neg z, q'q v hv, hq' v, if_neg z]
  have hE' : ∀ e, e < k → s.testBit e = true → A e < 6 ∧ B e < 6 ∧ (fun _ : Nat => 0) (A e) = (fun _ : Nat => 0) (B e) := fun e he hs => ⟨(hE e he hs).1, (hE e he hs).2.1, rfl⟩
  have hpos := mx_pos (A := A) (B := B) (s := s) (r := fun _ => 0) k q' hH' hE' (fun f hf he v hv => by
    have h1 := hc f (fun u hu => by
      have := hH u hu
      rw [← hf (q u) (by omega), q'q u hu, hf u hu]) he v hv
    have hrv : r v < 6 := by have := hH v hv; omega
    have h2 : q (r v) = r v := by
      have a := hH (r v) hrv
      have b := hH (q (r v)) (by omega)
      have d := hrr v hv
      omega
    have h3 : q' (r v) = 0 := by
      rw [hq', h2, if_pos (Or.inl (hrr v hv))]
    have h4 := hf (r v) hrv
    rw [h3] at h4
    exact h4.trans h1)
  have hdc := mx_dc (A := A) (B := B) (s := s) (r := fun _ => 0) k q' hH' hE'
  have e : mx_det (fun i j => if c < i ∨ c < j then mx_dl i j else mx_gd (mx_g q r) (mx_lp A B s q k) i j) = mx_det (mx_gd (mx_g q' (fun _ => 0)) (mx_lp A B s q' k)) := by
    have gg : ∀ i, 1 ≤ i → i ≤ 5 → (mx_g q' (fun _ => 0) i = true ↔ (c < i ∨ mx_g q r i = true)) := by
      intro i i1 i5
      unfold mx_g
      rw [decide_eq_true_eq, decide_eq_true_eq, hq' i]
      by_cases z : q i = i
      · rw [z]
        by_cases y : r i = i ∨ c < i
        · rw [if_pos y]
          constructor
          · intro _
            rcases y with y | y
            · exact Or.inr (Or.inr y)
            · exact Or.inl y
          · intro _
            exact Or.inl (by omega)
        · rw [if_neg y]
          constructor
          · intro t
            rcases t with t | t
            · exact absurd rfl t
            · have t : 0 = i := t
              omega
          · intro t
            rcases t with t | t | t
            · exact absurd (Or.inr t) y
            · exact absurd rfl t
            · exact absurd (Or.inl t) y
      · constructor
        · exact fun _ => Or.inr (Or.inl z)
        · intro _
          refine Or.inl ?_
          split
          · omega
          · exact z
    have dd : ∀ i, 1 ≤ i → i ≤ 5 → ¬ mx_g q' (fun _ => 0) i = true → ∀ x, mx_dl (q x) i = mx_dl (q' x) i := by
      intro i i1 i5 hn x
      have hn2 : ¬ (c < i ∨ mx_g q r i = true) := fun t => hn ((gg i i1 i5).mpr t)
      rw [hq' x]
      by_cases z : r (q x) = q x ∨ c < q x
      · rw [if_pos z, mx_dl_n (by omega : 0 ≠ i)]
        refine mx_dl_n (fun t => hn2 ?_)
        rw [t] at z
        rcases z with z | z
        · exact Or.inr (decide_eq_true (Or.inr z))
        · exact Or.inl z
      · rw [if_neg z]
    refine mx_det_c (fun i j i1 i5 j1 j5 => ?_)
    show (if c < i ∨ c < j then mx_dl i j else (if mx_g q r i = true ∨ mx_g q r j = true then mx_dl i j else mx_lp A B s q k i j)) = (if mx_g q' (fun _ => 0) i = true ∨ mx_g q' (fun _ => 0) j = true then mx_dl i j else mx_lp A B s q' k i j)
    by_cases z : mx_g q' (fun _ => 0) i = true ∨ mx_g q' (fun _ => 0) j = true
    · rw [if_pos z]
      by_cases y : c < i ∨ c < j
      · rw [if_pos y]
      · rw [if_neg y]
        refine if_pos ?_
        rcases z with z | z
        · rcases (gg i i1 i5).mp z with t | t
          · exact absurd (Or.inl t) y
          · exact Or.inl t
        · rcases (gg j j1 j5).mp z with t | t
          · exact absurd (Or.inr t) y
          · exact Or.inr t
    · have zi : ¬ mx_g q' (fun _ => 0) i = true := fun t => z (Or.inl t)
      have zj : ¬ mx_g q' (fun _ => 0) j = true := fun t => z (Or.inr t)
      have y : ¬ (c < i ∨ c < j) := fun t => t.elim (fun t => zi ((gg i i1 i5).mpr (Or.inl t))) (fun t => zj ((gg j j1 j5).mpr (Or.inl t)))
      have y2 : ¬ (mx_g q r i = true ∨ mx_g q r j = true) := fun t => t.elim (fun t => zi ((gg i i1 i5).mpr (Or.inr t))) (fun t => zj ((gg j j1 j5).mpr (Or.inr t)))
      rw [if_neg z, if_neg y, if_neg y2]
      exact mx_lp_c (dd i i1 i5 zi) (dd j j1 j5 zj) k
  rw [e, hdc]
  exact Int.natCast_pos.mpr hpos
end
end
section
/-! ===== the number of cheapest forests, level by level ===== -/
/-- the mask of the numbers below k with a property -/
def gx_fl (f : Nat → Bool) : Nat → Nat
  | 0 => 0
  | k + 1 => if f k = true then gx_fl f k ||| 2 ^ k else gx_fl f k
theorem gx_fl_lt (f : Nat → Bool) : ∀ k, gx_fl f k < 2 ^ k := by
  intro k
  induction k with
  | zero => exact Nat.one_pos
  | succ k ih =>
    have hp : 2 ^ k < 2 ^ (k + 1) := Nat.pow_lt_pow_right (by decide) (Nat.lt_succ_self k)
    show (if f k = true then gx_fl f k ||| 2 ^ k else gx_fl f k) < 2 ^ (k + 1)
    split
    · exact Nat.or_lt_two_pow (Nat.lt_trans ih hp) hp
    · exact Nat.lt_trans ih hp
theorem gx_fl_b (f : Nat → Bool) : ∀ k j, (gx_bs (gx_fl f k) j ↔ (j < k ∧ f j = true)) := by
  intro k
  induction k with
  | zero => exact fun j => ⟨fun h => absurd h (gx_bs0 j), fun h => absurd h.1 (Nat.not_lt_zero _)⟩
  | succ k ih =>
    intro j
    have e : gx_fl f (k + 1) = if f k = true then gx_fl f k ||| 2 ^ k else gx_fl f k := rfl
    rw [e]
    by_cases z : f k = true
    · rw [if_pos z]
      have h1 : gx_bs (gx_fl f k ||| 2 ^ k) j ↔ (gx_bs (gx_fl f k) j ∨ j = k) := by
        have := congrFun (gx_bs_in (m := gx_fl f k) (e := k)) j
        exact Iff.of_eq this
      rw [h1, ih j]
      constructor
      · intro h
        rcases h with h | h
        · exact ⟨by omega, h.2⟩
        · exact ⟨by omega, h ▸ z⟩
      · intro h
        by_cases y : j = k
        · exact Or.inr y
        · exact Or.inl ⟨by omega, h.2⟩
    · rw [if_neg z, ih j]
      constructor
      · exact fun h => ⟨by omega, h.2⟩
      · intro h
        refine ⟨?_, h.2⟩
        have : j ≠ k := fun t => z (t ▸ h.2)
        omega
/-- the edges of p lighter than t; those of weight t -/
def gx_lm (p : Nat) (w : Nat → Nat) (t : Nat) : Nat := gx_fl (fun e => p.testBit e && decide (w e < t)) 10
def gx_em (p : Nat) (w : Nat → Nat) (t : Nat) : Nat := gx_fl (fun e => p.testBit e && decide (w e = t)) 10
theorem gx_lm_lt (p : Nat) (w : Nat → Nat) (t : Nat) : gx_lm p w t < 1024 := gx_fl_lt _ 10
theorem gx_em_lt (p : Nat) (w : Nat → Nat) (t : Nat) : gx_em p w t < 1024 := gx_fl_lt _ 10
theorem gx_lm_b {p : Nat} {w : Nat → Nat} (hp : p < 1024) {t j : Nat} : gx_bs (gx_lm p w t) j ↔ (gx_bs p j ∧ w j < t) := by
  unfold gx_lm
  rw [gx_fl_b, Bool.and_eq_true, decide_eq_true_eq]
  exact ⟨fun h => h.2, fun h => ⟨gx_lt10 hp h.1, h⟩⟩
theorem gx_em_b {p : Nat} {w : Nat → Nat} (hp : p < 1024) {t j : Nat} : gx_bs (gx_em p w t) j ↔ (gx_bs p j ∧ w j = t) := by
  unfold gx_em
  rw [gx_fl_b, Bool.and_eq_true, decide_eq_true_eq]
  exact ⟨fun h => h.2, fun h => ⟨gx_lt10 hp h.1, h⟩⟩
theorem gx_bs_and (a b j : Nat) : gx_bs (a &&& b) j ↔ (gx_bs a j ∧ gx_bs b j) := by
  unfold gx_bs
  rw [Nat.testBit_and, Bool.and_eq_true]
theorem gx_bs_or (a b j : Nat) : gx_bs (a ||| b) j ↔ (gx_bs a j ∨ gx_bs b j) := by
  unfold gx_bs
  rw [Nat.testBit_or, Bool.or_eq_true]
theorem gx_bs_x {a b : Nat} (h : ∀ j, (gx_bs a j ↔ gx_bs b j)) : a = b := by
  apply Nat.eq_of_testBit_eq
  intro j
  have := h j
  unfold gx_bs at this
  cases h1 : a.testBit j <;> cases h2 : b.testBit j
  · rfl
  · rw [h1, h2] at this; exact absurd (this.mpr rfl) Bool.noConfusion
  · rw [h1, h2] at this; exact absurd (this.mp rfl) Bool.noConfusion
  · rfl
theorem gx_sub (a b : Nat) : a &&& b = a ↔ ∀ j, gx_bs a j → gx_bs b j := by
  constructor
  · intro h j hj
    rw [← h, gx_bs_and] at hj
    exact hj.2
  · intro h
    refine gx_bs_x (fun j => ?_)
    rw [gx_bs_and]
    exact ⟨fun t => t.1, fun t => ⟨t, h j t⟩⟩
/-- bases over nothing are the spanning forests -/
theorem gx_all {A B : Nat → Nat} {s m : Nat} (hs : s < 1024) : gx_BA A B s (fun _ => False) m ↔ gx_sn A B (gx_bs s) (gx_bs m) := by
  constructor
  · intro h
    have h10 : ∀ j, gx_bs m j → j < 10 := fun j hj => gx_lt10 hs (h.1 j hj).1
    refine ⟨fun j hj => (h.1 j hj).1, gx_seq (ρ := fun j => 10 - j) 11 (fun j _ => by show 10 - j < 11; omega) (fun i j hi hj hij => ?_) (fun e he c => (h.1 e he).2 (gx_cmono (fun j hj => Or.inr ⟨hj.1, ?_⟩) c)), fun j hj => gx_cmono (fun i hi => hi.elim False.elim id) (h.2 j hj)⟩
    · have a := h10 i hi
      have b := h10 j hj
      have c : 10 - i = 10 - j := hij
      omega
    · have a := h10 j hj.1
      have b : 10 - j < 10 - e := hj.2
      omega
  · intro h
    refine ⟨fun j hj => ⟨h.1 j hj, fun c => h.2.1 j hj (gx_cmono (fun i hi => ?_) c)⟩, fun j hj => gx_cmono (fun i hi => Or.inr hi) (h.2.2 j hj)⟩
    rcases hi with hi | hi
    · exact hi.elim
    · exact ⟨hi.1, by have := hi.2; omega⟩
/-- a cheapest spanning forest is a base on each level -/
theorem gx_lev {A B w : Nat → Nat} {p K m : Nat} (hp : p < 1024) (hw : ∀ j, w j < 51) (hK1 : K < 1024) (hK : ∀ j, (gx_bs K j ↔ gx_gr A B (gx_rk w) (gx_bs p) j)) (hm : m < 1024) :
    (gx_sn A B (gx_bs p) (gx_bs m) ∧ gx_wt w m = gx_wt w K) ↔
    (m &&& gx_lm p w 51 = m ∧ ∀ t, t < 51 → gx_BA A B (gx_em p w t) (gx_bs (gx_lm p w t)) (m &&& gx_em p w t)) := by
  have hmin := gx_minK hp hK1 hK
  have hsub : m &&& gx_lm p w 51 = m ↔ ∀ j, gx_bs m j → gx_bs p j := by
    rw [gx_sub]
    exact ⟨fun h j hj => ((gx_lm_b hp).mp (h j hj)).1, fun h j hj => (gx_lm_b hp).mpr ⟨h j hj, hw j⟩⟩
  rw [hsub]
  constructor
  · intro h
    obtain ⟨hs, hwt⟩ := h
    refine ⟨hs.1, fun t _ => ⟨fun j hj => ?_, fun j hj => ?_⟩⟩
    · rw [gx_bs_and] at hj
      obtain ⟨hjm, hje⟩ := hj
      refine ⟨hje, fun c => ?_⟩
      have hjt := ((gx_em_b hp).mp hje).2
      have hx : ∃ i, (gx_bs (gx_lm p w t) i ∨ (gx_bs (m &&& gx_em p w t) i ∧ j < i)) ∧ ¬ gx_cl A B (fun x => gx_bs m x ∧ x ≠ j) i :=
        Classical.byContradiction (fun n => hs.2.1 j hjm (gx_lift (fun i hi => Classical.byContradiction (fun q => n ⟨i, hi, q⟩)) c))
      obtain ⟨i, hi, hn⟩ := hx
      rcases hi with hi | hi
      · have hi' := (gx_lm_b hp).mp hi
        have hni : ¬ gx_bs m i := fun q => hn (gx_ed ⟨q, fun r => by rw [r] at hi'; omega⟩)
        have h10 := gx_lt10 hp hi'.1
        have hs' := gx_swap hs hi'.1 hjm hn
        rw [← gx_bs_sw hm] at hs'
        have a1 := (hmin _ (gx_sw_lt hm h10) hs').1
        have a2 := gx_wt_sw (w := w) hm h10 hjm hni
        have a3 := hi'.2
        omega
      · rw [gx_bs_and] at hi
        exact hn (gx_ed ⟨hi.1.1, by omega⟩)
    · refine Classical.byContradiction (fun c => ?_)
      have hj' := (gx_em_b hp).mp hj
      have hz : ¬ gx_bs m j := fun q => c (gx_ed (Or.inr ((gx_bs_and _ _ _).mpr ⟨q, hj⟩)))
      have hT : ¬ gx_cl A B (fun i => gx_bs m i ∧ w i < t + 1) j := fun q => c (gx_cmono (fun i hi => by
        by_cases y : w i = t
        · exact Or.inr ((gx_bs_and _ _ _).mpr ⟨hi.1, (gx_em_b hp).mpr ⟨hs.1 i hi.1, y⟩⟩)
        · exact Or.inl ((gx_lm_b hp).mpr ⟨hs.1 i hi.1, by have := hi.2; omega⟩)) q)
      obtain ⟨f, hf, hnT, hnc⟩ := gx_circ hs.2.1 (gx_p10 hm) (fun j hj => hj.1) (hs.2.2 j hj'.1) hT
      have h10 := gx_lt10 hp hj'.1
      have hs' := gx_swap hs hj'.1 hf hnc
      rw [← gx_bs_sw hm] at hs'
      have a1 := (hmin _ (gx_sw_lt hm h10) hs').1
      have a2 := gx_wt_sw (w := w) hm h10 hf hz
      have a3 : ¬ w f < t + 1 := fun q => hnT ⟨hf, q⟩
      omega
  · intro h
    obtain ⟨hsub, hB⟩ := h
    have hr : ∃ ρ : Nat → Nat, ∀ j, ρ j = 20 * w j + (if m.testBit j = true then 0 else 10) + (9 - j) := ⟨_, fun _ => rfl⟩
    obtain ⟨ρ, hρ⟩ := hr
    have ρt : ∀ j, gx_bs m j → ρ j = 20 * w j + (9 - j) := fun j hj => by rw [hρ, if_pos (show m.testBit j = true from hj), Nat.add_zero]
    have ρf : ∀ j, ¬ gx_bs m j → ρ j = 20 * w j + 10 + (9 - j) := fun j hj => by rw [hρ, if_neg (show ¬ m.testBit j = true from hj)]
    have hi : ∀ i j, gx_bs p i → gx_bs p j → ρ i = ρ j → i = j := by
      intro i j h1 h2 e
      have a := gx_lt10 hp h1
      have b := gx_lt10 hp h2
      by_cases z1 : gx_bs m i <;> by_cases z2 : gx_bs m j
      · rw [ρt i z1, ρt j z2] at e; omega
      · rw [ρt i z1, ρf j z2] at e; omega
      · rw [ρf i z1, ρt j z2] at e; omega
      · rw [ρf i z1, ρf j z2] at e; omega
    have hmo : ∀ i j, gx_bs p i → gx_bs p j → ρ i < ρ j → w i ≤ w j := by
      intro i j h1 h2 e
      by_cases z1 : gx_bs m i <;> by_cases z2 : gx_bs m j
      · rw [ρt i z1, ρt j z2] at e; omega
      · rw [ρt i z1, ρf j z2] at e; omega
      · rw [ρf i z1, ρt j z2] at e; omega
      · rw [ρf i z1, ρf j z2] at e; omega
    have hg : ∀ j, (gx_bs m j ↔ gx_gr A B ρ (gx_bs p) j) := by
      intro j
      constructor
      · intro hj
        have hpj := hsub j hj
        have j10 := gx_lt10 hp hpj
        refine ⟨hpj, fun c => ?_⟩
        have hb := (hB (w j) (hw j)).1 j ((gx_bs_and _ _ _).mpr ⟨hj, (gx_em_b hp).mpr ⟨hpj, rfl⟩⟩)
        refine hb.2 (gx_cmono (fun i hi => ?_) c)
        have i10 := gx_lt10 hp hi.1
        have hlt := hi.2
        rw [ρt j hj] at hlt
        by_cases z1 : gx_bs m i
        · rw [ρt i z1] at hlt
          by_cases y : w i = w j
          · exact Or.inr ⟨(gx_bs_and _ _ _).mpr ⟨z1, (gx_em_b hp).mpr ⟨hi.1, y⟩⟩, by omega⟩
          · exact Or.inl ((gx_lm_b hp).mpr ⟨hi.1, by omega⟩)
        · rw [ρf i z1] at hlt
          exact Or.inl ((gx_lm_b hp).mpr ⟨hi.1, by omega⟩)
      · intro hj
        refine Classical.byContradiction (fun hn => hj.2 ?_)
        have j10 := gx_lt10 hp hj.1
        refine gx_cmono (fun i hi => ?_) ((hB (w j) (hw j)).2 j ((gx_em_b hp).mpr ⟨hj.1, rfl⟩))
        rw [ρf j hn]
        rcases hi with hi | hi
        · have hi' := (gx_lm_b hp).mp hi
          refine ⟨hi'.1, ?_⟩
          have := hi'.2
          by_cases z1 : gx_bs m i
          · rw [ρt i z1]; omega
          · rw [ρf i z1]; omega
        · rw [gx_bs_and] at hi
          have hi' := (gx_em_b hp).mp hi.2
          refine ⟨hi'.1, ?_⟩
          rw [ρt i hi.1]
          have := hi'.2
          omega
    have hs := gx_K_sn hp hi hg
    refine ⟨hs, ?_⟩
    have a1 := (gx_min hp hi hmo hm hg K hK1 (gx_K_sn hp (gx_inj hp) hK)).1
    have a2 := (hmin m hm hs).1
    omega
/-! sums over the subsets of a mask -/
def gx_S (X : Nat) (f : Nat → Nat) (k : Nat) : Nat := gx_sm (fun m => if m &&& X = m then f m else 0) (2 ^ k)
theorem gx_andP {m k : Nat} (X : Nat) (hm : m < 2 ^ k) : (2 ^ k + m) &&& X = if X.testBit k = true then 2 ^ k + (m &&& X) else m &&& X := by
  refine gx_bs_x (fun j => ?_)
  have hmX : m &&& X < 2 ^ k := Nat.lt_of_le_of_lt Nat.and_le_left hm
  rw [gx_bs_and, gx_bsP hm]
  by_cases z : X.testBit k = true
  · rw [if_pos z, gx_bsP hmX]
    show (gx_bs m j ∨ j = k) ∧ gx_bs X j ↔ gx_bs (m &&& X) j ∨ j = k
    rw [gx_bs_and]
    constructor
    · intro h
      rcases h.1 with y | y
      · exact Or.inl ⟨y, h.2⟩
      · exact Or.inr y
    · intro h
      rcases h with y | y
      · exact ⟨Or.inl y.1, y.2⟩
      · exact ⟨Or.inr y, y ▸ z⟩
  · rw [if_neg z, gx_bs_and]
    constructor
    · intro h
      rcases h.1 with y | y
      · exact ⟨y, h.2⟩
      · exact absurd (y ▸ h.2) z
    · exact fun h => ⟨Or.inl h.1, h.2⟩
theorem gx_S_s (X : Nat) (f : Nat → Nat) (k : Nat) : gx_S X f (k + 1) = gx_S X f k + (if X.testBit k = true then gx_S X (fun m => f (2 ^ k + m)) k else 0) := by
  have e2 : 2 ^ (k + 1) = 2 ^ k + 2 ^ k := by rw [Nat.pow_succ]; omega
  unfold gx_S
  rw [e2, gx_sm_add]
  refine congrArg (gx_sm (fun m => if m &&& X = m then f m else 0) (2 ^ k) + ·) ?_
  by_cases z : X.testBit k = true
  · rw [if_pos z]
    refine gx_sm_c _ (fun m hm => ?_)
    show (if (2 ^ k + m) &&& X = 2 ^ k + m then f (2 ^ k + m) else 0) = (if m &&& X = m then f (2 ^ k + m) else 0)
    rw [gx_andP X hm, if_pos z]
    by_cases y : m &&& X = m
    · rw [if_pos y, if_pos (by rw [y])]
    · rw [if_neg y, if_neg (by omega)]
  · rw [if_neg z]
    refine gx_sm_0 _ (fun m hm => ?_)
    show (if (2 ^ k + m) &&& X = 2 ^ k + m then f (2 ^ k + m) else 0) = 0
    rw [gx_andP X hm, if_neg z]
    have h1 : m &&& X ≤ m := Nat.and_le_left
    have h2 := Nat.two_pow_pos k
    rw [if_neg (by omega)]
theorem gx_S_c {X : Nat} {f g : Nat → Nat} (k : Nat) (h : ∀ m, m < 2 ^ k → m &&& X = m → f m = g m) : gx_S X f k = gx_S X g k := by
  refine gx_sm_c _ (fun m hm => ?_)
  show (if m &&& X = m then f m else 0) = (if m &&& X = m then g m else 0)
  by_cases y : m &&& X = m
  · rw [if_pos y, if_pos y, h m hm y]
  · rw [if_neg y, if_neg y]
theorem gx_prod {X Y : Nat} (hd : ∀ j, gx_bs X j → ¬ gx_bs Y j) : ∀ (k : Nat) (f g : Nat → Nat), gx_S (X ||| Y) (fun m => f (m &&& X) * g (m &&& Y)) k = gx_S X f k * gx_S Y g k := by
  intro k
  induction k with
  | zero =>
    intro f g
    show 0 + (if 0 &&& (X ||| Y) = 0 then f (0 &&& X) * g (0 &&& Y) else 0) = (0 + (if 0 &&& X = 0 then f 0 else 0)) * (0 + (if 0 &&& Y = 0 then g 0 else 0))
    simp only [Nat.zero_and, if_true, Nat.zero_add]
  | succ k ih =>
    intro f g
    rw [gx_S_s, gx_S_s X f, gx_S_s Y g, ih f g]
    have hor : (X ||| Y).testBit k = true ↔ (X.testBit k = true ∨ Y.testBit k = true) := by rw [Nat.testBit_or, Bool.or_eq_true]
    by_cases z1 : X.testBit k = true
    · have z2 : ¬ Y.testBit k = true := hd k z1
      rw [if_pos (hor.mpr (Or.inl z1)), if_pos z1, if_neg z2, Nat.add_zero, Nat.add_mul, ← ih (fun x => f (2 ^ k + x)) g]
      refine congrArg (gx_S X f k * gx_S Y g k + ·) (gx_S_c k (fun m hm _ => ?_))
      show f ((2 ^ k + m) &&& X) * g ((2 ^ k + m) &&& Y) = f (2 ^ k + (m &&& X)) * g (m &&& Y)
      rw [gx_andP X hm, gx_andP Y hm, if_pos z1, if_neg z2]
    · by_cases z2 : Y.testBit k = true
      · rw [if_pos (hor.mpr (Or.inr z2)), if_neg z1, if_pos z2, Nat.add_zero, Nat.mul_add, ← ih f (fun x => g (2 ^ k + x))]
        refine congrArg (gx_S X f k * gx_S Y g k + ·) (gx_S_c k (fun m hm _ => ?_))
        show f ((2 ^ k + m) &&& X) * g ((2 ^ k + m) &&& Y) = f (m &&& X) * g (2 ^ k + (m &&& Y))
        rw [gx_andP X hm, gx_andP Y hm, if_neg z1, if_pos z2]
      · rw [if_neg (fun t => (hor.mp t).elim z1 z2), if_neg z1, if_neg z2, Nat.add_zero, Nat.add_zero, Nat.add_zero]
theorem gx_b_and (p q : Prop) : gx_b (p ∧ q) = gx_b p * gx_b q := by
  by_cases h1 : p
  · by_cases h2 : q
    · rw [gx_b_t h1, gx_b_t h2, gx_b_t ⟨h1, h2⟩]
    · rw [gx_b_t h1, gx_b_f h2, gx_b_f (fun t => h2 t.2)]
  · rw [gx_b_f h1, gx_b_f (fun t => h1 t.1), Nat.zero_mul]
/-- the bases of level t -/
noncomputable def gx_NT (A B : Nat → Nat) (p : Nat) (w : Nat → Nat) (t : Nat) : Nat := gx_sm (fun m => gx_b (gx_BA A B (gx_em p w t) (gx_bs (gx_lm p w t)) m)) 1024
/-- the choices on all levels below t -/
noncomputable def gx_CT (A B : Nat → Nat) (p : Nat) (w : Nat → Nat) (t : Nat) : Nat :=
  gx_sm (fun m => gx_b (m &&& gx_lm p w t = m ∧ ∀ t', t' < t → gx_BA A B (gx_em p w t') (gx_bs (gx_lm p w t')) (m &&& gx_em p w t'))) 1024
theorem gx_CT_S (A B : Nat → Nat) (p : Nat) (w : Nat → Nat) (t : Nat) : gx_CT A B p w t = gx_S (gx_lm p w t) (fun m => gx_b (∀ t', t' < t → gx_BA A B (gx_em p w t') (gx_bs (gx_lm p w t')) (m &&& gx_em p w t'))) 10 := by
  refine gx_sm_c _ (fun m _ => ?_)
  show gx_b _ = if m &&& gx_lm p w t = m then _ else 0
  by_cases y : m &&& gx_lm p w t = m
  · rw [if_pos y]
    exact gx_b_c ⟨fun h => h.2, fun h => ⟨y, h⟩⟩
  · rw [if_neg y, gx_b_f (fun h => y h.1)]
theorem gx_NT_S (A B : Nat → Nat) (p : Nat) (w : Nat → Nat) (t : Nat) : gx_NT A B p w t = gx_S (gx_em p w t) (fun m => gx_b (gx_BA A B (gx_em p w t) (gx_bs (gx_lm p w t)) m)) 10 := by
  refine gx_sm_c _ (fun m _ => ?_)
  show gx_b _ = if m &&& gx_em p w t = m then _ else 0
  by_cases y : m &&& gx_em p w t = m
  · rw [if_pos y]
  · rw [if_neg y, gx_b_f (fun h => y ((gx_sub _ _).mpr (fun j hj => (h.1 j hj).1)))]
theorem gx_CT_0 (A B : Nat → Nat) {p : Nat} (w : Nat → Nat) (hp : p < 1024) : gx_CT A B p w 0 = 1 := by
  have hz : gx_lm p w 0 = 0 := gx_bs_x (fun j => by
    rw [gx_lm_b hp]
    exact ⟨fun h => absurd h.2 (Nat.not_lt_zero _), fun h => absurd h (gx_bs0 j)⟩)
  have h := gx_sm_u (f := fun m => gx_b (m &&& gx_lm p w 0 = m ∧ ∀ t', t' < 0 → gx_BA A B (gx_em p w t') (gx_bs (gx_lm p w t')) (m &&& gx_em p w t'))) (g := fun _ => 0) (i := 0) 1024 (by decide) (fun j _ hj => by
    refine gx_b_f (fun t => hj ?_)
    have := t.1
    rw [hz, Nat.and_zero] at this
    exact this.symm)
  rw [gx_sm_0 1024 (fun _ _ => rfl)] at h
  have h2 : gx_b (0 &&& gx_lm p w 0 = 0 ∧ ∀ t', t' < 0 → gx_BA A B (gx_em p w t') (gx_bs (gx_lm p w t')) (0 &&& gx_em p w t')) = 1 := gx_b_t ⟨Nat.zero_and _, fun t' ht => absurd ht (Nat.not_lt_zero _)⟩
  have h3 : gx_CT A B p w 0 + 0 = 0 + gx_b (0 &&& gx_lm p w 0 = 0 ∧ ∀ t', t' < 0 → gx_BA A B (gx_em p w t') (gx_bs (gx_lm p w t')) (0 &&& gx_em p w t')) := h
  omega
theorem gx_CT_s (A B : Nat → Nat) {p : Nat} (w : Nat → Nat) (hp : p < 1024) (t : Nat) : gx_CT A B p w (t + 1) = gx_CT A B p w t * gx_NT A B p w t := by
  have hor : gx_lm p w (t + 1) = gx_lm p w t ||| gx_em p w t := gx_bs_x (fun j => by
    rw [gx_bs_or, gx_lm_b hp, gx_lm_b hp, gx_em_b hp]
    constructor
    · intro h
      by_cases z : w j = t
      · exact Or.inr ⟨h.1, z⟩
      · exact Or.inl ⟨h.1, by have := h.2; omega⟩
    · intro h
      rcases h with h | h
      · exact ⟨h.1, by have := h.2; omega⟩
      · exact ⟨h.1, by have := h.2; omega⟩)
  rw [gx_CT_S, gx_CT_S, gx_NT_S, hor, ← gx_prod (fun j h1 h2 => by
    have a := (gx_lm_b hp).mp h1
    have b := (gx_em_b hp).mp h2
    have := a.2
    have := b.2
    omega)]
  refine gx_S_c 10 (fun m _ _ => ?_)
  rw [← gx_b_and]
  refine gx_b_c ?_
  have ee : ∀ t', t' < t → m &&& gx_lm p w t &&& gx_em p w t' = m &&& gx_em p w t' := fun t' ht => gx_bs_x (fun j => by
    rw [gx_bs_and, gx_bs_and, gx_bs_and]
    constructor
    · exact fun h => ⟨h.1.1, h.2⟩
    · intro h
      have := (gx_em_b hp).mp h.2
      exact ⟨⟨h.1, (gx_lm_b hp).mpr ⟨this.1, by have := this.2; omega⟩⟩, h.2⟩)
  constructor
  · intro h
    refine ⟨fun t' ht => ?_, h t (Nat.lt_succ_self t)⟩
    rw [ee t' ht]
    exact h t' (Nat.lt_succ_of_lt ht)
  · intro h t' ht
    by_cases z : t' = t
    · rw [z]; exact h.2
    · have := h.1 t' (by omega)
      rw [ee t' (by omega)] at this
      exact this
theorem gx_CT_le (A B : Nat → Nat) (p : Nat) (w : Nat → Nat) (t : Nat) : gx_CT A B p w t ≤ 1024 := by
  have h : gx_CT A B p w t ≤ gx_sm (fun _ => 1) 1024 := gx_sm_le 1024 (fun j _ => gx_b_le _)
  have e : ∀ k, gx_sm (fun _ => 1) k = k := by
    intro k
    induction k with
    | zero => rfl
    | succ k ih => show gx_sm (fun _ => 1) k + 1 = k + 1; rw [ih]
  rw [e] at h
  exact h
/-- the number of cheapest spanning forests -/
theorem gx_cheap {A B w : Nat → Nat} {p K : Nat} (hp : p < 1024) (hw : ∀ j, w j < 51) (hK1 : K < 1024) (hK : ∀ j, (gx_bs K j ↔ gx_gr A B (gx_rk w) (gx_bs p) j)) :
    gx_sm (fun m => gx_b (gx_sn A B (gx_bs p) (gx_bs m) ∧ gx_wt w m = gx_wt w K)) 1024 = gx_CT A B p w 51 :=
  gx_sm_c _ (fun _ hm => gx_b_c (gx_lev hp hw hK1 hK hm))
end
section
/-! ===== rows of kit/rows (starting text): stores, numbers, bits ===== -/
theorem pk_us {f : Nat → Int32} {k : Nat} {x : Int32} : upd f k x k = x := if_pos rfl
theorem pk_un {f : Nat → Int32} {k j : Nat} {x : Int32} (h : j ≠ k) : upd f k x j = f j := if_neg h
theorem pk_uLs {f : Nat → Int64} {k : Nat} {x : Int64} : vp_updL f k x k = x := if_pos rfl
theorem pk_uLn {f : Nat → Int64} {k j : Nat} {x : Int64} (h : j ≠ k) : vp_updL f k x j = f j := if_neg h
theorem pk_sub {a b : Nat} (h : b ≤ a) : nI a - nI b = nI (a - b) := by
  obtain ⟨c, rfl⟩ : ∃ c, a = c + b := ⟨a - b, by omega⟩
  rw [← nI_add, Int32.add_sub_cancel, Nat.add_sub_cancel]
theorem pk_m1 (n : Nat) : nI (n + 1) + (-1) = nI n := by
  rw [← nI_1, Int32.add_assoc, show (1 : Int32) + (-1) = 0 from rfl, Int32.add_zero]
theorem pk_mul (a b : Nat) : nI a * nI b = nI (a * b) := (Int32.ofNat_mul a b).symm
theorem pk_sub_toInt {a b : Nat} (ha : a < 2 ^ 30) (hb : b < 2 ^ 30) : (nI a - nI b).toInt = (a : Int) - b := by
  rw [Int32.toInt_sub, nI_toInt (by omega), nI_toInt (by omega)]
  exact Int.bmod_eq_of_le (by omega) (by omega)
theorem pk_ix (x : Int32) {n : Nat} (hn : n < 2 ^ 31) : x < 0 ∨ nI n ≤ x ∨ ∃ j : Nat, j < n ∧ x = nI j := by
  by_cases h : x < 0
  · exact Or.inl h
  · obtain ⟨j, hj, rfl⟩ := nI_of h
    by_cases h2 : j < n
    · exact Or.inr (Or.inr ⟨j, h2, rfl⟩)
    · exact Or.inr (Or.inl (nI_le (by omega) hj))
theorem pk_le {x y : Int32} {A B : Prop} (a b : Nat) (f : a ≤ b → A) (g : b < a → B) (hx : x = nI a := by rfl) (hy : y = nI b := by rfl) (ha : a < 2 ^ 31 := by omega) (hb : b < 2 ^ 31 := by omega) : (x ≤ y → A) ∧ (¬ x ≤ y → B) := by
  subst hx hy
  rw [nI_leI ha hb]
  exact ⟨f, fun z => g (by omega)⟩
theorem pk_lt {x y : Int32} {A B : Prop} (a b : Nat) (f : a < b → A) (g : b ≤ a → B) (hx : x = nI a := by rfl) (hy : y = nI b := by rfl) (ha : a < 2 ^ 31 := by omega) (hb : b < 2 ^ 31 := by omega) : (x < y → A) ∧ (¬ x < y → B) := by
  subst hx hy
  rw [nI_ltI ha hb]
  exact ⟨f, fun z => g (by omega)⟩
theorem pk_eq {x y : Int32} {A B : Prop} (a b : Nat) (f : a = b → A) (g : a ≠ b → B) (hx : x = nI a := by rfl) (hy : y = nI b := by rfl) (ha : a < 2 ^ 31 := by omega) (hb : b < 2 ^ 31 := by omega) : (x = y → A) ∧ (¬ x = y → B) := by
  subst hx hy
  rw [nI_eq ha hb]
  exact ⟨f, g⟩
theorem pk_in {x : Int32} (n N : Nat) (h : n < N) (hx : x = nI n := by rfl) (hN : N < 2 ^ 31 := by omega) : vp_in x N := by
  subst hx
  exact vp_in_nI h hN
theorem pk_cl {x : Int32} (n : Nat) (hx : x = nI n := by rfl) (h : n < 2 ^ 31 := by omega) : x.toNatClampNeg = n := by
  subst hx
  exact nI_clamp h
theorem pk_tn {n : Nat} (h : n < 2 ^ 32) : (nI n).toBitVec.toNat = n := Nat.mod_eq_of_lt h
theorem pk_and (x : Int32) {m : Int32} (k : Nat) (hm : m.toBitVec.toNat = 2 ^ k - 1) : x &&& m = nI (x.toBitVec.toNat % 2 ^ k) := by
  apply Int32.toBitVec_inj.mp
  apply BitVec.eq_of_toNat_eq
  rw [Int32.toBitVec_and, BitVec.toNat_and, hm, Nat.and_two_pow_sub_one_eq_mod]
  show _ = (BitVec.ofNat 32 _).toNat
  rw [BitVec.toNat_ofNat]
  exact (Nat.mod_eq_of_lt (Nat.lt_of_le_of_lt (Nat.mod_le _ _) x.toBitVec.isLt)).symm
theorem pk_andN {n : Nat} (h : n < 2 ^ 32) {m : Int32} (k : Nat) (hm : m.toBitVec.toNat = 2 ^ k - 1) : nI n &&& m = nI (n % 2 ^ k) := by
  rw [pk_and _ k hm, pk_tn h]
theorem pk_shl (a s : Int32) (k : Nat) (hs : (s.toBitVec.smod 32).toNat = k) : (a <<< s).toBitVec.toNat = a.toBitVec.toNat * 2 ^ k % 2 ^ 32 := by
  show (a.toBitVec <<< (s.toBitVec.smod 32).toNat).toNat = _
  rw [hs, BitVec.toNat_shiftLeft, Nat.shiftLeft_eq]
theorem pk_shlN {n : Nat} (s : Int32) (k : Nat) (hs : (s.toBitVec.smod 32).toNat = k) (h : n * 2 ^ k < 2 ^ 32) : nI n <<< s = nI (n * 2 ^ k) := by
  apply Int32.toBitVec_inj.mp
  apply BitVec.eq_of_toNat_eq
  have hn : n < 2 ^ 32 := Nat.lt_of_le_of_lt (Nat.le_mul_of_pos_right n (Nat.two_pow_pos k)) h
  rw [pk_shl _ _ k hs, pk_tn hn, pk_tn h, Nat.mod_eq_of_lt h]
theorem pk_shr (a s : Int32) (k : Nat) (hs : (s.toBitVec.smod 32).toNat = k) : (a >>> s).toInt = a.toInt >>> k := by
  show (a.toBitVec.sshiftRight (s.toBitVec.smod 32).toNat).toInt = _
  rw [hs, BitVec.toInt_sshiftRight]
  rfl
theorem pk_shrN {n : Nat} (h : n < 2 ^ 31) (s : Int32) (k : Nat) (hs : (s.toBitVec.smod 32).toNat = k) : nI n >>> s = nI (n / 2 ^ k) := by
  apply Int32.toInt_inj.mp
  have h2 : n / 2 ^ k ≤ n := Nat.div_le_self _ _
  rw [pk_shr _ _ k hs, nI_toInt h, nI_toInt (by omega), Int.shiftRight_eq_div_pow]
  rfl
theorem pk_vb (z : Int32) : vp_nar .byte z.toInt8.toInt32 = z.toInt8.toInt32 := by rw [vp_nar_byte]; simp
theorem pk_lT {n : Nat} (h : n < 2 ^ 63) : (lN n).toInt = (n : Int) := lg_ofNat_toInt h
theorem pk_lEQ {a b : Nat} (ha : a < 2 ^ 63) (hb : b < 2 ^ 63) : lN a = lN b ↔ a = b := by
  rw [← Int64.toInt_inj, pk_lT ha, pk_lT hb]; omega
def bt (x : Int32) (i : Nat) : Bool := x.toBitVec.getLsbD i
theorem b_ext {x y : Int32} (h : ∀ i, i < 32 → bt x i = bt y i) : x = y := Int32.toBitVec_inj.mp (BitVec.eq_of_getLsbD_eq (fun i hi => h i hi))
theorem b_or (x y : Int32) (i : Nat) : bt (x ||| y) i = (bt x i || bt y i) := by unfold bt; rw [Int32.toBitVec_or, BitVec.getLsbD_or]
theorem b_and (x y : Int32) (i : Nat) : bt (x &&& y) i = (bt x i && bt y i) := by unfold bt; rw [Int32.toBitVec_and, BitVec.getLsbD_and]
theorem b_xor (x y : Int32) (i : Nat) : bt (x ^^^ y) i = (bt x i ^^ bt y i) := by unfold bt; rw [Int32.toBitVec_xor, BitVec.getLsbD_xor]
theorem b_big {x : Int32} {i : Nat} (h : 32 ≤ i) : bt x i = false := BitVec.getLsbD_of_ge _ _ h
theorem b_m1 : ∀ i, i < 32 → bt (-1) i = true := by decide +kernel
theorem b_0 (i : Nat) : bt 0 i = false := BitVec.getLsbD_zero
theorem s_l : ∀ n, n < 32 → ((nI n &&& 31).toBitVec.smod 32).toNat = n := by decide +kernel
theorem nx_and (a b : Nat) : nI a &&& nI b = nI (a &&& b) := by
  apply Int32.toBitVec_inj.1
  show BitVec.ofNat 32 a &&& BitVec.ofNat 32 b = BitVec.ofNat 32 (a &&& b)
  apply BitVec.eq_of_getLsbD_eq
  intro i hi
  simp [hi]
theorem nx_xor (a b : Nat) : nI a ^^^ nI b = nI (a ^^^ b) := by
  apply Int32.toBitVec_inj.1
  show BitVec.ofNat 32 a ^^^ BitVec.ofNat 32 b = BitVec.ofNat 32 (a ^^^ b)
  apply BitVec.eq_of_getLsbD_eq
  intro i hi
  simp [hi]
/-! ===== masks as ints ===== -/
theorem ix_bt (n i : Nat) : bt (nI n) i = (decide (i < 32) && n.testBit i) := by
  show (BitVec.ofNat 32 n).getLsbD i = _
  rw [BitVec.getLsbD_ofNat]
theorem ix_bit {m e : Nat} (hm : m < 2 ^ 31) (he : e < 32) : ((nI m >>> (nI e &&& 31)) &&& 1) = nI (if m.testBit e = true then 1 else 0) := by
  rw [pk_shrN hm _ e (s_l e he), pk_andN (Nat.lt_of_le_of_lt (Nat.div_le_self _ _) (by omega)) 1 (by decide)]
  refine congrArg nI ?_
  rw [Nat.testBit_eq_decide_div_mod_eq]
  have : m / 2 ^ e % 2 < 2 := Nat.mod_lt _ (by decide)
  generalize hz : m / 2 ^ e = z at *
  by_cases y : z % 2 = 1
  · rw [decide_eq_true y, if_pos rfl]; omega
  · rw [decide_eq_false y, if_neg (by decide)]; omega
theorem ix_bit0 {m e : Nat} (hm : m < 2 ^ 31) (he : e < 32) : ((nI m >>> (nI e &&& 31)) &&& 1) = 0 ↔ ¬ gx_bs m e := by
  rw [ix_bit hm he]
  unfold gx_bs
  by_cases y : m.testBit e = true
  · rw [if_pos y]; exact ⟨fun h => absurd h (by decide), fun h => absurd y h⟩
  · rw [if_neg y]; exact ⟨fun _ => y, fun _ => rfl⟩
theorem ix_bit1 {m e : Nat} (hm : m < 2 ^ 31) (he : e < 32) : ((nI m >>> (nI e &&& 31)) &&& 1) = 1 ↔ gx_bs m e := by
  rw [ix_bit hm he]
  unfold gx_bs
  by_cases y : m.testBit e = true
  · rw [if_pos y]; exact ⟨fun _ => y, fun _ => rfl⟩
  · rw [if_neg y]; exact ⟨fun h => absurd h (by decide), fun h => absurd h y⟩
theorem ix_pow {e : Nat} (he : e < 31) : ((1 : Int32) <<< (nI e &&& 31)) = nI (2 ^ e) := by
  have h := pk_shlN (n := 1) (nI e &&& 31) e (s_l e (by omega)) (by rw [Nat.one_mul]; exact Nat.pow_lt_pow_right (by decide) (by omega))
  rw [Nat.one_mul] at h
  exact h
theorem ix_or (a b : Nat) : nI a ||| nI b = nI (a ||| b) := by
  refine b_ext (fun i hi => ?_)
  rw [b_or, ix_bt, ix_bt, ix_bt, Nat.testBit_or, decide_eq_true hi]
  simp
theorem ix_set {m e : Nat} (he : e < 31) : nI m ||| ((1 : Int32) <<< (nI e &&& 31)) = nI (gx_in m e) := by
  rw [ix_pow he, ix_or]; rfl
theorem ix_not {m l : Nat} (hm : m < 1024) : nI m &&& (nI l ^^^ (-1)) = nI (m &&& (1023 ^^^ l)) := by
  refine b_ext (fun i hi => ?_)
  rw [b_and, b_xor, b_m1 i hi, ix_bt, ix_bt, ix_bt, Nat.testBit_and, Nat.testBit_xor, show (1023 : Nat) = 2 ^ 10 - 1 from rfl, Nat.testBit_two_pow_sub_one, decide_eq_true hi]
  by_cases z : i < 10
  · simp [z]
  · rw [gx_hi hm (by omega)]; simp
theorem ix_clr {m e : Nat} (hm : m < 1024) (he : e < 31) : nI m &&& (((1 : Int32) <<< (nI e &&& 31)) ^^^ (-1)) = nI (gx_de m e) := by
  rw [ix_pow he, ix_not hm]; rfl
theorem ix_orZ (x : Int32) : x ||| 0 = x := by
  refine b_ext (fun i _ => ?_)
  rw [b_or, b_0, Bool.or_false]
theorem ix_byte {n : Nat} (h : n < 128) : vp_nar .byte (nI n).toInt8.toInt32 = nI n := by
  rw [pk_vb]
  have hh : ∀ n : Fin 128, (nI n.val).toInt8.toInt32 = nI n.val := by decide +kernel
  exact hh ⟨n, h⟩
theorem ix_b1 : vp_nar .boolean 1 = 1 := rfl
theorem ix_b0 : vp_nar .boolean 0 = 0 := rfl
/-- an array of small numbers; a mask as an array of booleans -/
def ix_nf (F : Nat → Nat) : Nat → Int32 := fun e => nI (F e)
def ix_bf (p : Nat) : Nat → Int32 := fun e => if p.testBit e = true then 1 else 0
def ix_up (F : Nat → Nat) (k x : Nat) : Nat → Nat := fun j => if j = k then x else F j
theorem ix_upd (F : Nat → Nat) (k x : Nat) : upd (ix_nf F) k (nI x) = ix_nf (ix_up F k x) := by
  funext j
  show (if j = k then nI x else nI (F j)) = nI (if j = k then x else F j)
  split <;> rfl
theorem ix_bf0 {p e : Nat} : ix_bf p e = 0 ↔ ¬ gx_bs p e := by
  unfold ix_bf gx_bs
  by_cases y : p.testBit e = true
  · rw [if_pos y]; exact ⟨fun h => absurd h (by decide), fun h => absurd y h⟩
  · rw [if_neg y]; exact ⟨fun _ => y, fun _ => rfl⟩
theorem ix_bf_in (p e : Nat) : upd (ix_bf p) e 1 = ix_bf (gx_in p e) := by
  funext j
  show (if j = e then (1 : Int32) else (if p.testBit j = true then 1 else 0)) = (if (gx_in p e).testBit j = true then 1 else 0)
  rw [gx_in_b]
  by_cases z : j = e
  · rw [if_pos z, decide_eq_true z.symm, Bool.or_true, if_pos rfl]
  · rw [if_neg z, decide_eq_false (fun t => z t.symm), Bool.or_false]
theorem ix_bf_de {p : Nat} (hp : p < 1024) (e : Nat) : upd (ix_bf p) e 0 = ix_bf (gx_de p e) := by
  funext j
  show (if j = e then (0 : Int32) else (if p.testBit j = true then 1 else 0)) = (if (gx_de p e).testBit j = true then 1 else 0)
  rw [gx_de_b hp]
  by_cases z : j = e
  · rw [if_pos z, decide_eq_false (fun t => t z.symm), Bool.and_false, if_neg (by decide)]
  · rw [if_neg z, decide_eq_true (show e ≠ j from fun t => z t.symm), Bool.and_true]
theorem ix_m1 : (-1 : Int32) < 0 := by decide
end
section
/-! ===== walks of the component: has, separate, joined, join, firstOf, takeUntil ===== -/
/-- the array pt holds the labels q -/
def px_P (pt : Nat → Int32) (q : Nat → Nat) : Prop := ∀ v, v < 6 → pt v = nI (q v)
section
variable {p : Nat} {lt : Int32} {A B W : Nat → Nat} {pt : Nat → Int32} {mt : Nat → Int64} {e x y s : Nat} {q : Nat → Nat}
theorem px_has {post : Int32 → Prop} {aA aB aW : Nat → Int32} (hp : p < 1024) (he : e < 10) (h1 : gx_bs p e → post 1) (h0 : ¬ gx_bs p e → post 0) :
    wpX_has post (nI p, lt, aA, aB, aW, pt, mt) (nI e) :=
  br_f (nI_pos (by omega)) (br_f (nI_ge (b := 10) he (by decide)) (br_c (fun z => h0 ((ix_bit0 (by omega) (by omega)).mp z)) (fun z => h1 (Classical.byContradiction (fun t => z ((ix_bit0 (by omega) (by omega)).mpr t))))))
theorem px_sep2 {post : SX → Prop} {fp : Int32} {aA aB aW : Nat → Int32} (h : ∀ pt', (∀ v, v < 6 → pt' v = nI v) → post (fp, lt, aA, aB, aW, pt', mt)) :
    ∀ n i, i ≤ 6 → 6 - i < n → ∀ pt : Nat → Int32, (∀ v, v < i → pt v = nI v) → wX_separate_2 post fp lt n (nI i) aA aB aW pt mt := by
  intro n
  induction n with
  | zero => intro i _ h; exact absurd h (Nat.not_lt_zero _)
  | succ n ih =>
    intro i hi hn pt hpt
    by_cases z : i = 6
    · subst z
      exact br_t (nI_le (a := 6) (b := 6) (Nat.le_refl _) (by decide)) (h pt hpt)
    · have hi6 : i < 6 := by omega
      refine br_f (nI_ge (b := 6) hi6 (by decide)) (And.intro (vp_in_nI hi6 (by decide)) (nm_r (e' := upd pt i (nI i)) (by rw [nI_clamp (by omega), ix_byte (by omega)]) (nm_r (nI_1 i) (ih (i + 1) (by omega) (by omega) _ (fun v hv => ?_)))))
      by_cases y : v = i
      · subst y; exact pk_us
      · rw [pk_un y]; exact hpt v (by omega)
theorem px_sep {post : SX → Prop} {fp : Int32} {aA aB aW : Nat → Int32} (h : ∀ pt', (∀ v, v < 6 → pt' v = nI v) → post (fp, lt, aA, aB, aW, pt', mt)) :
    wpX_separate post (fp, lt, aA, aB, aW, pt, mt) :=
  Exists.intro 7 (px_sep2 h 7 0 (by omega) (by omega) pt (fun v hv => absurd hv (Nat.not_lt_zero _)))
theorem px_joined {post : Int32 → Prop} {fp : Int32} {aA aB aW : Nat → Int32} (hP : px_P pt q) (h6 : ∀ v, v < 6 → q v < 6) (hx : x < 6) (hy : y < 6)
    (h1 : q x = q y → post 1) (h0 : q x ≠ q y → post 0) : wpX_joined post (fp, lt, aA, aB, aW, pt, mt) (nI x) (nI y) := by
  refine And.intro (vp_in_nI hx (by decide)) (And.intro (vp_in_nI hy (by decide)) ?_)
  rw [nI_clamp (by omega), nI_clamp (by omega), hP x hx, hP y hy, nI_eq (by have := h6 x hx; omega) (by have := h6 y hy; omega)]
  exact ⟨h1, h0⟩
theorem px_join66 {post : SX → Prop} {fp : Int32} {aA aB aW : Nat → Int32} {lo hi : Nat} (h6 : ∀ v, v < 6 → q v < 6) (hlo : lo < 6) (hhi : hi < 6)
    (h : ∀ pt', px_P pt' (mx_mr q lo hi) → post (fp, lt, aA, aB, aW, pt', mt)) :
    ∀ n i, i ≤ 6 → 6 - i < n → ∀ pt : Nat → Int32, (∀ v, v < 6 → pt v = nI (if v < i then mx_mr q lo hi v else q v)) → wX_join_66 post (nI lo) (nI hi) fp lt n (nI i) aA aB aW pt mt := by
  intro n
  induction n with
  | zero => intro i _ h; exact absurd h (Nat.not_lt_zero _)
  | succ n ih =>
    intro i hi' hn pt hpt
    by_cases z : i = 6
    · subst z
      exact br_t (nI_le (a := 6) (b := 6) (Nat.le_refl _) (by decide)) (h pt (fun v hv => by rw [hpt v hv, if_pos hv]))
    · have hi6 : i < 6 := by omega
      have hin : vp_in (nI i) 6 := vp_in_nI hi6 (by decide)
      have hcl : (nI i).toNatClampNeg = i := nI_clamp (by omega)
      have hpi : pt i = nI (q i) := by rw [hpt i hi6, if_neg (Nat.lt_irrefl i)]
      refine br_f (nI_ge (b := 6) hi6 (by decide)) (And.intro hin ?_)
      rw [hcl, hpi, nI_eq (by have := h6 i hi6; omega) (by omega)]
      refine br_c (fun y => And.intro hin (nm_r (e' := upd pt i (nI lo)) (by rw [ix_byte (by omega)]) (nm_r (nI_1 i) (ih (i + 1) (by omega) (by omega) _ (fun v hv => ?_))))) (fun y => nm_r (nI_1 i) (ih (i + 1) (by omega) (by omega) _ (fun v hv => ?_)))
      · by_cases t : v = i
        · subst t
          rw [pk_us, if_pos (Nat.lt_succ_self v)]
          unfold mx_mr
          rw [if_pos y]
        · rw [pk_un t, hpt v hv]
          by_cases u : v < i
          · rw [if_pos u, if_pos (by omega)]
          · rw [if_neg u, if_neg (by omega)]
      · rw [hpt v hv]
        by_cases t : v = i
        · subst t
          rw [if_neg (Nat.lt_irrefl v), if_pos (Nat.lt_succ_self v)]
          unfold mx_mr
          rw [if_neg y]
        · by_cases u : v < i
          · rw [if_pos u, if_pos (by omega)]
          · rw [if_neg u, if_neg (by omega)]
theorem px_join {post : SX → Prop} {fp : Int32} {aA aB aW : Nat → Int32} (hP : px_P pt q) (h6 : ∀ v, v < 6 → q v < 6) (hx : x < 6) (hy : y < 6)
    (h : ∀ pt', px_P pt' (mx_mg q x y) → post (fp, lt, aA, aB, aW, pt', mt)) : wpX_join post (fp, lt, aA, aB, aW, pt, mt) (nI x) (nI y) := by
  have ix : vp_in (nI x) 6 := vp_in_nI hx (by decide)
  have iy : vp_in (nI y) 6 := vp_in_nI hy (by decide)
  have cx : (nI x).toNatClampNeg = x := nI_clamp (by omega)
  have cy : (nI y).toNatClampNeg = y := nI_clamp (by omega)
  have qx := h6 x hx
  have qy := h6 y hy
  have start : ∀ v, v < 6 → pt v = nI (if v < 0 then mx_mg q x y v else q v) := fun v hv => by rw [if_neg (Nat.not_lt_zero v)]; exact hP v hv
  refine And.intro ix (And.intro iy ?_)
  rw [cx, cy, hP x hx, hP y hy, nI_leI (by omega) (by omega)]
  refine br_c (fun z => And.intro iy ?_) (fun z => And.intro ix ?_)
  · refine And.intro ix (And.intro iy ?_)
    rw [cx, cy, hP x hx, hP y hy]
    refine br_t (nI_le z (by omega)) (And.intro ix (nm_e (Exists.intro 7 ?_)))
    have e : mx_mg q x y = mx_mr q (q y) (q x) := by unfold mx_mg; rw [Nat.min_eq_right z, Nat.max_eq_left z]
    rw [e] at h start
    exact px_join66 h6 qy qx h 7 0 (by omega) (by omega) pt start
  · refine And.intro ix (And.intro iy ?_)
    rw [cx, cy, hP x hx, hP y hy]
    refine br_f (nI_ge (by omega) (by omega)) (And.intro iy (nm_e (Exists.intro 7 ?_)))
    have e : mx_mg q x y = mx_mr q (q x) (q y) := by unfold mx_mg; rw [Nat.min_eq_left (by omega), Nat.max_eq_right (by omega)]
    rw [e] at h start
    exact px_join66 h6 qx qy h 7 0 (by omega) (by omega) pt start
theorem px_first4 {post : Int32 → Prop} {fp : Int32} {aA aB : Nat → Int32} (hW : ∀ j, W j < 51) (hs : s < 1024) (h0 : (∀ j, ¬ gx_bs s j) → post (-1))
    (h1 : ∀ e, gx_bs s e → (∀ j, gx_bs s j → gx_rk W e ≤ gx_rk W j) → post (nI e)) :
    ∀ n i, i ≤ 10 → 10 - i < n →
      ((∀ j, j < i → ¬ gx_bs s j) → wX_firstOf_4 post (nI s) fp lt aA aB (ix_nf W) pt mt n (-1) (nI i)) ∧
      (∀ b, b < i → gx_bs s b → (∀ j, j < i → gx_bs s j → gx_rk W b ≤ gx_rk W j) → wX_firstOf_4 post (nI s) fp lt aA aB (ix_nf W) pt mt n (nI b) (nI i)) := by
  intro n
  induction n with
  | zero => intro i _ h; exact absurd h (Nat.not_lt_zero _)
  | succ n ih =>
    intro i hi hn
    by_cases z : i = 10
    · subst z
      have le : (10 : Int32) ≤ nI 10 := nI_le (a := 10) (b := 10) (Nat.le_refl _) (by decide)
      exact ⟨fun hb => br_t le (h0 (fun j hj => hb j (gx_lt10 hs hj) hj)), fun b _ hb hm => br_t le (h1 b hb (fun j hj => hm j (gx_lt10 hs hj) hj))⟩
    · have hi10 : i < 10 := by omega
      have nle : ¬ (10 : Int32) ≤ nI i := nI_ge (b := 10) hi10 (by decide)
      have hb0 : ((nI s >>> (nI i &&& 31)) &&& 1) = 0 ↔ ¬ gx_bs s i := ix_bit0 (by omega) (by omega)
      obtain ⟨ihA, ihB⟩ := ih (i + 1) (by omega) (by omega)
      refine ⟨fun hb => br_f nle ?_, fun b hbi hb hm => br_f nle ?_⟩
      · refine br_c (fun y => nm_r (nI_1 i) (ihA (fun j hj hjs => ?_))) (fun y => br_t ix_m1 (nm_r (nI_1 i) (ihB i (by omega) (Classical.byContradiction (fun t => y (hb0.mpr t))) (fun j hj hjs => ?_))))
        · by_cases t : j = i
          · subst t; exact hb0.mp y hjs
          · exact hb j (by omega) hjs
        · by_cases t : j = i
          · subst t; exact Nat.le_refl _
          · exact absurd hjs (hb j (by omega))
      · refine br_c (fun y => nm_r (nI_1 i) (ihB b (by omega) hb (fun j hj hjs => ?_))) (fun y => br_f (nI_pos (by omega)) (And.intro (vp_in_nI hi10 (by decide)) (And.intro (vp_in_nI (by omega) (by decide)) ?_)))
        · by_cases t : j = i
          · subst t; exact absurd hjs (hb0.mp y)
          · exact hm j (by omega) hjs
        · have hsi : gx_bs s i := Classical.byContradiction (fun t => y (hb0.mpr t))
          have w1 := hW i
          have w2 := hW b
          rw [nI_clamp (by omega), nI_clamp (by omega)]
          show (nI (W b) ≤ nI (W i) → _) ∧ (¬ nI (W b) ≤ nI (W i) → _)
          rw [nI_leI (by omega) (by omega)]
          refine br_c (fun t => nm_r (nI_1 i) (ihB b (by omega) hb (fun j hj hjs => ?_))) (fun t => nm_r (nI_1 i) (ihB i (by omega) hsi (fun j hj hjs => ?_)))
          · by_cases u : j = i
            · subst u; unfold gx_rk; omega
            · exact hm j (by omega) hjs
          · by_cases u : j = i
            · subst u; exact Nat.le_refl _
            · have := hm j (by omega) hjs
              unfold gx_rk at this ⊢
              omega
theorem px_first {post : Int32 → Prop} {fp : Int32} {aA aB : Nat → Int32} (hW : ∀ j, W j < 51) (hs : s < 1024) (h0 : (∀ j, ¬ gx_bs s j) → post (-1))
    (h1 : ∀ e, gx_bs s e → (∀ j, gx_bs s j → gx_rk W e ≤ gx_rk W j) → post (nI e)) : wpX_firstOf post (fp, lt, aA, aB, ix_nf W, pt, mt) (nI s) :=
  Exists.intro 11 ((px_first4 hW hs h0 h1 11 0 (by omega) (by omega)).1 (fun _ hj => absurd hj (Nat.not_lt_zero _)))
end
end
section
/-! ===== takeUntil ===== -/
theorem gx_card0 {m : Nat} (hm : m < 1024) (h : gx_wt (fun _ => 1) m = 0) (j : Nat) : ¬ gx_bs m j := by
  intro hj
  have : gx_wt (fun _ => 1) (gx_de m j) + 1 = gx_wt (fun _ => 1) m := gx_wt_de (w := fun _ => 1) hm hj
  omega
theorem gx_card10 (m : Nat) : gx_wt (fun _ => 1) m ≤ 10 := by
  have h : gx_wt (fun _ => 1) m ≤ gx_sm (fun _ => 1) 10 := gx_sm_le 10 (fun j _ => by
    show (if m.testBit j = true then 1 else 0) ≤ 1
    split <;> omega)
  exact h
/-- the edges of s ranked below t are dealt with: rm is the rest, tk the taken ones, q labels the parts -/
def px_I (A B W : Nat → Nat) (s t rm tk : Nat) (q : Nat → Nat) : Prop :=
  rm < 1024 ∧ tk < 1024 ∧ (∀ j, (gx_bs rm j ↔ (gx_bs s j ∧ t ≤ gx_rk W j))) ∧ (∀ j, (gx_bs tk j ↔ (gx_gr A B (gx_rk W) (gx_bs s) j ∧ gx_rk W j < t))) ∧
  gx_lb A B (fun j => gx_bs s j ∧ gx_rk W j < t) q ∧ gx_ll q
/-- the edge l joins a and b -/
def px_L (A B W : Nat → Nat) (s l a b : Nat) : Prop :=
  gx_bs s l ∧ gx_cn A B (fun j => gx_bs s j ∧ gx_rk W j ≤ gx_rk W l) a b ∧ ¬ gx_cn A B (fun j => gx_bs s j ∧ gx_rk W j < gx_rk W l) a b
section
variable {p : Nat} {lt : Int32} {A B W : Nat → Nat} {pt : Nat → Int32} {mt : Nat → Int64} {e x y s t rm tk c : Nat} {q : Nat → Nat}
theorem px_38 {post : Int32 → SX → Prop} {J : Int32 → Int32 → Int32 → Int32 → Int32 → (Nat → Int32) → (Nat → Int32) → (Nat → Int32) → (Nat → Int32) → (Nat → Int64) → Prop} {x2 x3 fp : Int32}
    (hW : ∀ j, W j < 51) (hA : ∀ j, A j < 6) (hB : ∀ j, B j < 6) (hs : s < 1024) (hI : px_I A B W s t rm tk q) (hP : px_P pt q) (hc : gx_wt (fun _ => 1) rm + c ≤ 10) (hc10 : c < 10)
    (hJ : ∀ t' rm' tk' q' pt' lt', px_I A B W s t' rm' tk' q' → px_P pt' q' → gx_wt (fun _ => 1) rm' + (c + 1) ≤ 10 →
      (∀ a b, ¬ gx_cn A B (fun j => gx_bs s j ∧ gx_rk W j < t) a b → gx_cn A B (fun j => gx_bs s j ∧ gx_rk W j < t') a b → ∃ l, lt' = nI l ∧ px_L A B W s l a b) →
      J (nI rm') (nI tk') (nI (c + 1)) fp lt' (ix_nf A) (ix_nf B) (ix_nf W) pt' mt) :
    wX_takeUntil_38 post J x2 x3 (nI rm) (nI tk) (nI c) fp lt (ix_nf A) (ix_nf B) (ix_nf W) pt mt := by
  obtain ⟨h1, h2, h3, h4, h5, h6⟩ := hI
  unfold wX_takeUntil_38
  refine px_first hW h1 (fun hn => ?_) (fun e he hmin => ?_)
  · refine br_t ix_m1 (nm_r (nI_1 c) (hJ t rm tk q pt lt ⟨h1, h2, h3, h4, h5, h6⟩ hP ?_ (fun a b z1 z2 => absurd z2 z1)))
    have : gx_wt (fun _ => 1) rm = 0 := gx_sm_0 10 (fun j _ => if_neg (hn j))
    omega
  · have e10 : e < 10 := gx_lt10 h1 he
    have hcl : (nI e).toNatClampNeg = e := nI_clamp (by omega)
    have hin : vp_in (nI e) 10 := vp_in_nI e10 (by decide)
    have hse := (h3 e).mp he
    have hcard : gx_wt (fun _ => 1) (gx_de rm e) + 1 = gx_wt (fun _ => 1) rm := gx_wt_de (w := fun _ => 1) h1 he
    have q6 : ∀ v, v < 6 → q v < 6 := fun v hv => (h5 v hv).1
    have lt_iff : ∀ j, gx_bs s j → (gx_rk W j < gx_rk W e ↔ gx_rk W j < t) := by
      intro j hj
      constructor
      · intro z
        refine Classical.byContradiction (fun n => ?_)
        have := hmin j ((h3 j).mpr ⟨hj, by omega⟩)
        omega
      · have := hse.2
        omega
    have eq_iff : ∀ j, gx_bs s j → (gx_rk W j < gx_rk W e + 1 ↔ (gx_rk W j < t ∨ j = e)) := by
      intro j hj
      rw [← lt_iff j hj]
      constructor
      · intro z
        by_cases y : gx_rk W j = gx_rk W e
        · exact Or.inr (gx_rk_inj (gx_lt10 hs hj) e10 y)
        · exact Or.inl (by omega)
      · intro z
        rcases z with z | z
        · omega
        · rw [z]; omega
    have hrm : ∀ j, (gx_bs (gx_de rm e) j ↔ (gx_bs s j ∧ gx_rk W e + 1 ≤ gx_rk W j)) := by
      intro j
      rw [gx_bs_de h1]
      show gx_bs rm j ∧ j ≠ e ↔ _
      rw [h3 j]
      constructor
      · intro z
        refine ⟨z.1.1, ?_⟩
        have := eq_iff j z.1.1
        have b := z.1.2
        have d := z.2
        refine Classical.byContradiction (fun n => ?_)
        rcases this.mp (by omega) with y | y
        · omega
        · exact d y
      · intro z
        have a := eq_iff j z.1
        have b := z.2
        refine ⟨⟨z.1, ?_⟩, fun y => ?_⟩
        · have := hse.2; omega
        · rw [y] at b; omega
    have hT : ∀ j, ((gx_bs s j ∧ gx_rk W j < gx_rk W e + 1) ↔ ((gx_bs s j ∧ gx_rk W j < t) ∨ j = e)) := by
      intro j
      constructor
      · intro z
        rcases (eq_iff j z.1).mp z.2 with y | y
        · exact Or.inl ⟨z.1, y⟩
        · exact Or.inr y
      · intro z
        rcases z with z | z
        · exact ⟨z.1, (eq_iff j z.1).mpr (Or.inl z.2)⟩
        · rw [z]; exact ⟨hse.1, by omega⟩
    have hTe : (fun j => gx_bs s j ∧ gx_rk W j < gx_rk W e) = (fun j => gx_bs s j ∧ gx_rk W j < t) := funext (fun j => propext ⟨fun z => ⟨z.1, (lt_iff j z.1).mp z.2⟩, fun z => ⟨z.1, (lt_iff j z.1).mpr z.2⟩⟩)
    have hTf : (fun j => gx_bs s j ∧ gx_rk W j < gx_rk W e + 1) = (fun j => (gx_bs s j ∧ gx_rk W j < t) ∨ j = e) := funext (fun j => propext (hT j))
    refine br_f (nI_pos (by omega)) (nm_r (ix_clr h1 (by omega)) (And.intro hin (And.intro hin ?_)))
    rw [hcl]
    refine px_joined (x := A e) (y := B e) hP q6 (hA e) (hB e) (fun hj => ?_) (fun hj => ?_)
    · have hcl' : gx_cl A B (fun j => gx_bs s j ∧ gx_rk W j < t) e := (gx_lb_iff h5 (hA e) (hB e)).mp hj
      refine br_f (by decide) (nm_r (nI_1 c) (hJ (gx_rk W e + 1) (gx_de rm e) tk q pt lt ⟨gx_de_lt h1, h2, hrm, fun j => ?_, ?_, h6⟩ hP (by omega) (fun a b z1 z2 => absurd ?_ z1)))
      · rw [h4 j]
        constructor
        · exact fun z => ⟨z.1, by have := hse.2; omega⟩
        · intro z
          refine ⟨z.1, ?_⟩
          rcases (eq_iff j z.1.1).mp z.2 with y | y
          · exact y
          · rw [y] at z
            refine absurd ?_ z.1.2
            rw [hTe]; exact hcl'
      · rw [hTf]
        intro v hv
        refine ⟨(h5 v hv).1, gx_mono (fun _ => Or.inl) (h5 v hv).2.1, fun u hu cc => (h5 v hv).2.2 u hu (gx_lift (fun i hi => ?_) cc)⟩
        rcases hi with hi | hi
        · exact gx_ed hi
        · rw [hi]; exact hcl'
      · rw [hTf] at z2
        refine gx_lift (fun i hi => ?_) z2
        rcases hi with hi | hi
        · exact gx_ed hi
        · rw [hi]; exact hcl'
    · have hncl : ¬ gx_cl A B (fun j => gx_bs s j ∧ gx_rk W j < t) e := fun z => hj ((gx_lb_iff h5 (hA e) (hB e)).mpr z)
      refine br_t rfl (And.intro hin (And.intro hin ?_))
      refine px_join (x := A e) (y := B e) hP q6 (hA e) (hB e) (fun pt' hP' => ?_)
      refine nm_r (ix_set (by omega)) (nm_r (nI_1 c) (hJ (gx_rk W e + 1) (gx_de rm e) (gx_in tk e) (mx_mg q (A e) (B e)) pt' (nI e) ⟨gx_de_lt h1, gx_in_lt h2 e10, hrm, fun j => ?_, ?_, gx_ll_mg h6 _ _⟩ hP' (by omega) (fun a b z1 z2 => ⟨e, rfl, hse.1, ?_, ?_⟩)))
      · rw [gx_bs_in]
        show gx_bs tk j ∨ j = e ↔ _
        rw [h4 j]
        constructor
        · intro z
          rcases z with z | z
          · exact ⟨z.1, by have := hse.2; omega⟩
          · rw [z]
            refine ⟨⟨hse.1, ?_⟩, by omega⟩
            rw [hTe]; exact hncl
        · intro z
          rcases (eq_iff j z.1.1).mp z.2 with y | y
          · exact Or.inl ⟨z.1, y⟩
          · exact Or.inr y
      · rw [hTf]
        exact gx_lb_mg h5 (hA e) (hB e)
      · exact gx_mono (fun j hj => ⟨hj.1, by have := hj.2; omega⟩) z2
      · rw [hTe]; exact z1
/-- all edges of s in order -/
theorem px_18n {post : Int32 → SX → Prop} {fp x3 : Int32} (hW : ∀ j, W j < 51) (hA : ∀ j, A j < 6) (hB : ∀ j, B j < 6) (hs : s < 1024)
    (h : ∀ tk q pt' lt', tk < 1024 → (∀ j, (gx_bs tk j ↔ gx_gr A B (gx_rk W) (gx_bs s) j)) → gx_lb A B (gx_bs s) q → gx_ll q → px_P pt' q → post (nI tk) (fp, lt', ix_nf A, ix_nf B, ix_nf W, pt', mt)) :
    ∀ n c, c ≤ 10 → 10 - c < n → ∀ (t rm tk : Nat) (q : Nat → Nat) (pt : Nat → Int32) (lt : Int32), px_I A B W s t rm tk q → px_P pt q → gx_wt (fun _ => 1) rm + c ≤ 10 →
      wX_takeUntil_18 post (-1) x3 n (nI rm) (nI tk) (nI c) fp lt (ix_nf A) (ix_nf B) (ix_nf W) pt mt := by
  intro n
  induction n with
  | zero => intro c _ h; exact absurd h (Nat.not_lt_zero _)
  | succ n ih =>
    intro c hc hn t rm tk q pt lt hI hP hcard
    by_cases z : c = 10
    · subst z
      obtain ⟨h1, h2, h3, h4, h5, h6⟩ := hI
      have hall : ∀ j, gx_bs s j → gx_rk W j < t := fun j hj => Classical.byContradiction (fun y => gx_card0 h1 (by omega) j ((h3 j).mpr ⟨hj, by omega⟩))
      refine br_t (nI_le (a := 10) (b := 10) (Nat.le_refl _) (by decide)) (h tk q pt lt h2 (fun j => ?_) (gx_lb_c h5 (fun j => ⟨fun y => y.1, fun y => ⟨y, hall j y⟩⟩)) h6 hP)
      rw [h4 j]
      exact ⟨fun y => y.1, fun y => ⟨y, hall j y.1⟩⟩
    · exact br_f (nI_ge (b := 10) (by omega) (by decide)) (br_t ix_m1 (px_38 hW hA hB hs hI hP hcard (by omega) (fun t' rm' tk' q' pt' lt' hI' hP' hc' _ => ih (c + 1) (by omega) (by omega) t' rm' tk' q' pt' lt' hI' hP' hc')))
theorem px_takeAll {post : Int32 → SX → Prop} {fp x3 : Int32} (hW : ∀ j, W j < 51) (hA : ∀ j, A j < 6) (hB : ∀ j, B j < 6) (hs : s < 1024)
    (h : ∀ tk q pt' lt', tk < 1024 → (∀ j, (gx_bs tk j ↔ gx_gr A B (gx_rk W) (gx_bs s) j)) → gx_lb A B (gx_bs s) q → gx_ll q → px_P pt' q → post (nI tk) (fp, lt', ix_nf A, ix_nf B, ix_nf W, pt', mt)) :
    wpX_takeUntil post (fp, lt, ix_nf A, ix_nf B, ix_nf W, pt, mt) (nI s) (-1) x3 := by
  unfold wpX_takeUntil
  refine px_sep (fun pt' hpt => Exists.intro 11 ?_)
  refine px_18n hW hA hB hs h 11 0 (by omega) (by omega) 0 s 0 (fun v => v) pt' (-1) ⟨hs, by decide, fun j => ⟨fun z => ⟨z, Nat.zero_le _⟩, fun z => z.1⟩, fun j => ⟨fun z => absurd z (gx_bs0 j), fun z => absurd z.2 (Nat.not_lt_zero _)⟩, gx_lb_0 (fun j z => absurd z.2 (Nat.not_lt_zero _)) (fun _ _ => rfl), fun v _ => Nat.le_refl _⟩ hpt (gx_card10 s)
/-- until a and b are joined -/
theorem px_18u {post : Int32 → SX → Prop} {fp : Int32} {a b : Nat} (hW : ∀ j, W j < 51) (hA : ∀ j, A j < 6) (hB : ∀ j, B j < 6) (hs : s < 1024) (ha : a < 6) (hb : b < 6)
    (h : ∀ r q pt' lt', px_P pt' q → (∀ v, v < 6 → q v < 6) → (q a = q b ↔ gx_cn A B (gx_bs s) a b) → (q a = q b → (a = b ∧ lt' = -1) ∨ ∃ l, lt' = nI l ∧ px_L A B W s l a b) → post r (fp, lt', ix_nf A, ix_nf B, ix_nf W, pt', mt)) :
    ∀ n c, c ≤ 10 → 10 - c < n → ∀ (t rm tk : Nat) (q : Nat → Nat) (pt : Nat → Int32) (lt : Int32), px_I A B W s t rm tk q → px_P pt q → gx_wt (fun _ => 1) rm + c ≤ 10 →
      (gx_cn A B (fun j => gx_bs s j ∧ gx_rk W j < t) a b → (a = b ∧ lt = -1) ∨ ∃ l, lt = nI l ∧ px_L A B W s l a b) →
      wX_takeUntil_18 post (nI a) (nI b) n (nI rm) (nI tk) (nI c) fp lt (ix_nf A) (ix_nf B) (ix_nf W) pt mt := by
  intro n
  induction n with
  | zero => intro c _ h; exact absurd h (Nat.not_lt_zero _)
  | succ n ih =>
    intro c hc hn t rm tk q pt lt hI hP hcard hL
    have hI' := hI
    obtain ⟨h1, h2, h3, h4, h5, h6⟩ := hI'
    by_cases z : c = 10
    · subst z
      have hall : ∀ j, gx_bs s j → gx_rk W j < t := fun j hj => Classical.byContradiction (fun y => gx_card0 h1 (by omega) j ((h3 j).mpr ⟨hj, by omega⟩))
      have h5' : gx_lb A B (gx_bs s) q := gx_lb_c h5 (fun j => ⟨fun y => y.1, fun y => ⟨y, hall j y⟩⟩)
      exact br_t (nI_le (a := 10) (b := 10) (Nat.le_refl _) (by decide)) (h (nI tk) q pt lt hP (fun v hv => (h5 v hv).1) (gx_lb_iff h5' ha hb) (fun y => hL ((gx_lb_iff h5 ha hb).mp y)))
    · refine br_f (nI_ge (b := 10) (by omega) (by decide)) (br_f (nI_pos (by omega)) (px_joined hP (fun v hv => (h5 v hv).1) ha hb (fun y => ?_) (fun y => ?_)))
      · have y' := (gx_lb_iff h5 ha hb).mp y
        exact br_f (by decide) (h (nI tk) q pt lt hP (fun v hv => (h5 v hv).1) ⟨fun _ => gx_mono (fun j hj => hj.1) y', fun _ => y⟩ (fun _ => hL y'))
      · have y' : ¬ gx_cn A B (fun j => gx_bs s j ∧ gx_rk W j < t) a b := fun u => y ((gx_lb_iff h5 ha hb).mpr u)
        exact br_t rfl (px_38 hW hA hB hs hI hP hcard (by omega) (fun t' rm' tk' q' pt' lt' hI' hP' hc' hR => ih (c + 1) (by omega) (by omega) t' rm' tk' q' pt' lt' hI' hP' hc' (fun u => Or.inr (hR a b y' u))))
theorem px_takeTo {post : Int32 → SX → Prop} {fp : Int32} {a b : Nat} (hW : ∀ j, W j < 51) (hA : ∀ j, A j < 6) (hB : ∀ j, B j < 6) (hs : s < 1024) (ha : a < 6) (hb : b < 6)
    (h : ∀ r q pt' lt', px_P pt' q → (∀ v, v < 6 → q v < 6) → (q a = q b ↔ gx_cn A B (gx_bs s) a b) → (q a = q b → (a = b ∧ lt' = -1) ∨ ∃ l, lt' = nI l ∧ px_L A B W s l a b) → post r (fp, lt', ix_nf A, ix_nf B, ix_nf W, pt', mt)) :
    wpX_takeUntil post (fp, lt, ix_nf A, ix_nf B, ix_nf W, pt, mt) (nI s) (nI a) (nI b) := by
  unfold wpX_takeUntil
  refine px_sep (fun pt' hpt => Exists.intro 11 ?_)
  refine px_18u hW hA hB hs ha hb h 11 0 (by omega) (by omega) 0 s 0 (fun v => v) pt' (-1) ⟨hs, by decide, fun j => ⟨fun z => ⟨z, Nat.zero_le _⟩, fun z => z.1⟩, fun j => ⟨fun z => absurd z (gx_bs0 j), fun z => absurd z.2 (Nat.not_lt_zero _)⟩, gx_lb_0 (fun j z => absurd z.2 (Nat.not_lt_zero _)) (fun _ _ => rfl), fun v _ => Nat.le_refl _⟩ hpt (gx_card10 s) (fun z => Or.inl ⟨?_, rfl⟩)
  exact gx_none (fun j hj => absurd hj.2 (Nat.not_lt_zero _)) z
end
end
section
/-! ===== weightOf, sizeOf, lighterThan ===== -/
section
variable {p : Nat} {lt : Int32} {A B W : Nat → Nat} {pt : Nat → Int32} {mt : Nat → Int64} {s t : Nat}
theorem px_wt4 {post : Int32 → Prop} {fp : Int32} {aA aB : Nat → Int32} (hs : s < 1024) (h : post (nI (gx_wt W s))) :
    ∀ n i, i ≤ 10 → 10 - i < n → wX_weightOf_4 post (nI s) fp lt aA aB (ix_nf W) pt mt n (nI (gx_sm (fun e => if s.testBit e = true then W e else 0) i)) (nI i) := by
  intro n
  induction n with
  | zero => intro i _ h; exact absurd h (Nat.not_lt_zero _)
  | succ n ih =>
    intro i hi hn
    by_cases z : i = 10
    · subst z
      exact br_t (nI_le (a := 10) (b := 10) (Nat.le_refl _) (by decide)) h
    · have hi10 : i < 10 := by omega
      have hb0 : ((nI s >>> (nI i &&& 31)) &&& 1) = 0 ↔ ¬ gx_bs s i := ix_bit0 (by omega) (by omega)
      have st : gx_sm (fun e => if s.testBit e = true then W e else 0) (i + 1) = gx_sm (fun e => if s.testBit e = true then W e else 0) i + (if s.testBit i = true then W i else 0) := rfl
      have I := ih (i + 1) (by omega) (by omega)
      refine br_f (nI_ge (b := 10) hi10 (by decide)) (br_c (fun y => nm_r (nI_1 i) ?_) (fun y => And.intro (vp_in_nI hi10 (by decide)) (nm_r (e' := nI (gx_sm (fun e => if s.testBit e = true then W e else 0) (i + 1))) ?_ (nm_r (nI_1 i) I))))
      · rw [st, if_neg (show ¬ s.testBit i = true from hb0.mp y), Nat.add_zero] at I
        exact I
      · have y' : s.testBit i = true := Classical.byContradiction (fun u => y (hb0.mpr u))
        rw [nI_clamp (by omega), st, if_pos y', ← nI_add]
        rfl
theorem px_wt {post : Int32 → Prop} {fp : Int32} {aA aB : Nat → Int32} (hs : s < 1024) (h : post (nI (gx_wt W s))) : wpX_weightOf post (fp, lt, aA, aB, ix_nf W, pt, mt) (nI s) :=
  Exists.intro 11 (px_wt4 hs h 11 0 (by omega) (by omega))
theorem px_sz4 {post : Int32 → Prop} (hs : s < 1024) (h : post (nI (gx_wt (fun _ => 1) s))) :
    ∀ n i, i ≤ 10 → 10 - i < n → wX_sizeOf_4 post (nI s) n (nI (gx_sm (fun e => if s.testBit e = true then 1 else 0) i)) (nI i) := by
  intro n
  induction n with
  | zero => intro i _ h; exact absurd h (Nat.not_lt_zero _)
  | succ n ih =>
    intro i hi hn
    by_cases z : i = 10
    · subst z
      exact br_t (nI_le (a := 10) (b := 10) (Nat.le_refl _) (by decide)) h
    · have hi10 : i < 10 := by omega
      have I := ih (i + 1) (by omega) (by omega)
      refine br_f (nI_ge (b := 10) hi10 (by decide)) (nm_r (e' := nI (gx_sm (fun e => if s.testBit e = true then 1 else 0) (i + 1))) ?_ (nm_r (nI_1 i) I))
      rw [ix_bit (by omega) (by omega), nI_add]
      rfl
theorem px_sz {post : Int32 → Prop} (hs : s < 1024) (h : post (nI (gx_wt (fun _ => 1) s))) : wpX_sizeOf post (nI s) :=
  Exists.intro 11 (px_sz4 hs h 11 0 (by omega) (by omega))
theorem px_lm4 {post : Int32 → Prop} {aA aB : Nat → Int32} (hp : p < 1024) (hW : ∀ j, W j < 51) (ht : t < 1000) (h : post (nI (gx_lm p W t))) :
    ∀ n i, i ≤ 10 → 10 - i < n → wX_lighterThan_4 post (nI t) (nI p) lt aA aB (ix_nf W) pt mt n (nI (gx_fl (fun e => p.testBit e && decide (W e < t)) i)) (nI i) := by
  intro n
  induction n with
  | zero => intro i _ h; exact absurd h (Nat.not_lt_zero _)
  | succ n ih =>
    intro i hi hn
    by_cases z : i = 10
    · subst z
      exact br_t (nI_le (a := 10) (b := 10) (Nat.le_refl _) (by decide)) h
    · have hi10 : i < 10 := by omega
      have st : gx_fl (fun e => p.testBit e && decide (W e < t)) (i + 1) = if (p.testBit i && decide (W i < t)) = true then gx_fl (fun e => p.testBit e && decide (W e < t)) i ||| 2 ^ i else gx_fl (fun e => p.testBit e && decide (W e < t)) i := rfl
      have I := ih (i + 1) (by omega) (by omega)
      refine br_f (nI_ge (b := 10) hi10 (by decide)) (px_has hp hi10 (fun y => br_f (by decide) (And.intro (vp_in_nI hi10 (by decide)) ?_)) (fun y => br_t rfl (nm_r (nI_1 i) ?_)))
      · have hw := hW i
        rw [nI_clamp (by omega)]
        show (nI t ≤ nI (W i) → _) ∧ (¬ nI t ≤ nI (W i) → _)
        rw [nI_leI (by omega) (by omega)]
        refine br_c (fun u => nm_r (nI_1 i) ?_) (fun u => nm_r (e' := nI (gx_fl (fun e => p.testBit e && decide (W e < t)) (i + 1))) ?_ (nm_r (nI_1 i) I))
        · rw [st, if_neg (by rw [Bool.and_eq_true, decide_eq_true_eq]; omega)] at I
          exact I
        · rw [ix_set (by omega), st, if_pos (by rw [Bool.and_eq_true, decide_eq_true_eq]; exact ⟨y, by omega⟩)]
          rfl
      · rw [st, if_neg (by rw [Bool.and_eq_true]; exact fun u => y u.1)] at I
        exact I
theorem px_lm {post : Int32 → Prop} {aA aB : Nat → Int32} (hp : p < 1024) (hW : ∀ j, W j < 51) (ht : t < 1000) (h : post (nI (gx_lm p W t))) : wpX_lighterThan post (nI p, lt, aA, aB, ix_nf W, pt, mt) (nI t) :=
  Exists.intro 11 (px_lm4 hp hW ht h 11 0 (by omega) (by omega))
end
end
section
/-! ===== the determinant by crosswise products ===== -/
def mx_D (G : Nat → Nat → Int) (c r k : Nat) : Int := match c with
  | 0 => G r k
  | 1 => G r k
  | 2 => mx_t2 G 1 r 1 k
  | 3 => mx_t3 G 1 2 r 1 2 k
  | 4 => mx_t4 G 1 2 3 r 1 2 3 k
  | _ => mx_t5 G 1 2 3 4 r 1 2 3 4 k
/-- the pivot before -/
def mx_bf (G : Nat → Nat → Int) (c : Nat) : Int := match c with
  | 0 => 1
  | c + 1 => mx_D G c c c
theorem mx_D_s {G : Nat → Nat → Int} (h00 : G 0 0 = 1) (h0 : ∀ r, 0 < r → G r 0 = 0) {c r k : Nat} (hc : c < 5) (hr : c < r) :
    mx_D G c r k * mx_D G c c c - mx_D G c r c * mx_D G c c k = mx_bf G c * mx_D G (c + 1) r k := by
  rcases (by omega : c = 0 ∨ c = 1 ∨ c = 2 ∨ c = 3 ∨ c = 4) with h | h | h | h | h <;> subst h
  · show G r k * G 0 0 - G r 0 * G 0 k = 1 * G r k
    rw [h00, h0 r hr]; simp
  · show G r k * G 1 1 - G r 1 * G 1 k = G 0 0 * mx_t2 G 1 r 1 k
    rw [h00]; unfold mx_t2; grind
  · exact mx_b1 G 1 2 r 1 2 k
  · exact mx_b2 G 1 2 3 r 1 2 3 k
  · exact mx_b3 G 1 2 3 4 r 1 2 3 4 k
theorem mx_mb {x y : Int} {a b : Nat} (hx : x.natAbs ≤ a) (hy : y.natAbs ≤ b) : (x * y).natAbs ≤ a * b := by
  rw [Int.natAbs_mul]; exact Nat.mul_le_mul hx hy
theorem mx_bt2 {G : Nat → Nat → Int} (h : ∀ i j, (G i j).natAbs ≤ 10) (i j a b : Nat) : (mx_t2 G i j a b).natAbs ≤ 200 := by
  have h1 := mx_mb (h i a) (h j b)
  have h2 := mx_mb (h i b) (h j a)
  unfold mx_t2
  omega
theorem mx_bt3 {G : Nat → Nat → Int} (h : ∀ i j, (G i j).natAbs ≤ 10) (i j k a b c : Nat) : (mx_t3 G i j k a b c).natAbs ≤ 6000 := by
  have h1 := mx_mb (h i a) (mx_bt2 h j k b c)
  have h2 := mx_mb (h i b) (mx_bt2 h j k a c)
  have h3 := mx_mb (h i c) (mx_bt2 h j k a b)
  unfold mx_t3
  omega
theorem mx_bt4 {G : Nat → Nat → Int} (h : ∀ i j, (G i j).natAbs ≤ 10) (i j k l a b c d : Nat) : (mx_t4 G i j k l a b c d).natAbs ≤ 240000 := by
  have h1 := mx_mb (h i a) (mx_bt3 h j k l b c d)
  have h2 := mx_mb (h i b) (mx_bt3 h j k l a c d)
  have h3 := mx_mb (h i c) (mx_bt3 h j k l a b d)
  have h4 := mx_mb (h i d) (mx_bt3 h j k l a b c)
  unfold mx_t4
  omega
theorem mx_bt5 {G : Nat → Nat → Int} (h : ∀ i j, (G i j).natAbs ≤ 10) (i j k l n a b c d e : Nat) : (mx_t5 G i j k l n a b c d e).natAbs ≤ 12000000 := by
  have h1 := mx_mb (h i a) (mx_bt4 h j k l n b c d e)
  have h2 := mx_mb (h i b) (mx_bt4 h j k l n a c d e)
  have h3 := mx_mb (h i c) (mx_bt4 h j k l n a b d e)
  have h4 := mx_mb (h i d) (mx_bt4 h j k l n a b c e)
  have h5 := mx_mb (h i e) (mx_bt4 h j k l n a b c d)
  unfold mx_t5
  omega
theorem mx_bD {G : Nat → Nat → Int} (h : ∀ i j, (G i j).natAbs ≤ 10) (c r k : Nat) : (mx_D G c r k).natAbs ≤ 12000000 := by
  match c with
  | 0 => exact Nat.le_trans (h r k) (by decide)
  | 1 => exact Nat.le_trans (h r k) (by decide)
  | 2 => exact Nat.le_trans (mx_bt2 h _ _ _ _) (by decide)
  | 3 => exact Nat.le_trans (mx_bt3 h _ _ _ _ _ _) (by decide)
  | 4 => exact Nat.le_trans (mx_bt4 h _ _ _ _ _ _ _ _) (by decide)
  | _ + 5 => exact mx_bt5 h _ _ _ _ _ _ _ _ _ _
theorem mx_bbf {G : Nat → Nat → Int} (h : ∀ i j, (G i j).natAbs ≤ 10) (c : Nat) : (mx_bf G c).natAbs ≤ 12000000 := by
  cases c with
  | zero => exact (by decide : (1 : Int).natAbs ≤ 12000000)
  | succ c => exact mx_bD h c c c
theorem mx_o0 {x : Int} (h : x.natAbs ≤ 12000000) (hn : x ≠ 0) : ¬ Int64.ofInt x = 0 := by
  intro e
  have h1 := congrArg Int64.toInt e
  rw [Int64.toInt_ofInt_of_le (by omega) (by omega), show (0 : Int64).toInt = 0 from by decide] at h1
  exact hn h1
theorem mx_dv {x y z f P d : Int} (hx : x.natAbs ≤ 12000000) (hP : P.natAbs ≤ 12000000) (hf : f.natAbs ≤ 12000000) (hy : y.natAbs ≤ 12000000) (hd : d.natAbs ≤ 12000000) (hd0 : d ≠ 0)
    (e : x * P - f * y = d * z) : (Int64.ofInt x * Int64.ofInt P - Int64.ofInt f * Int64.ofInt y) / Int64.ofInt d = Int64.ofInt z := by
  have h1 := mx_mb hx hP
  have h2 := mx_mb hf hy
  have m1 : Int64.minValue.toInt = -9223372036854775808 := by decide
  have m2 : Int64.maxValue.toInt = 9223372036854775807 := by decide
  rw [← Int64.ofInt_mul, ← Int64.ofInt_mul, ← Int64.ofInt_sub, ← Int64.ofInt_tdiv (by rw [m1]; omega) (by rw [m2]; omega) (by rw [m1]; omega) (by rw [m2]; omega), e, Int.mul_tdiv_cancel_left _ hd0]
theorem ix_ij (i j : Nat) : nI i * 6 + nI j = nI (i * 6 + j) := by
  show nI i * nI 6 + nI j = _
  rw [pk_mul, nI_add]
section
variable {fp lt : Int32} {aA aB aW pt : Nat → Int32} {G : Nat → Nat → Int} {c r : Nat}
/-- rows of stage c; those between c and r of stage c + 1 -/
def px_R (G : Nat → Nat → Int) (c r : Nat) (mt : Nat → Int64) : Prop :=
  ∀ x k, c ≤ x → x < 6 → c ≤ k → k < 6 → ((x = c ∨ r ≤ x) → mt (x * 6 + k) = Int64.ofInt (mx_D G c x k)) ∧ ((c < x ∧ x < r ∧ c < k) → mt (x * 6 + k) = Int64.ofInt (mx_D G (c + 1) x k))
theorem px_el42 {post : SX → Prop} (hG : ∀ i j, (G i j).natAbs ≤ 10) (h00 : G 0 0 = 1) (h0 : ∀ r, 0 < r → G r 0 = 0) (hb : mx_bf G c ≠ 0) (hc : c < 5) (hr : c < r) (hr6 : r < 6)
    (h : ∀ mt', px_R G c (r + 1) mt' → post (fp, lt, aA, aB, aW, pt, mt')) :
    ∀ n k, c ≤ k → k ≤ 6 → 6 - k < n → ∀ mt : Nat → Int64,
      (∀ x j, c ≤ x → x < 6 → c ≤ j → j < 6 → ((x = c ∨ r < x ∨ (x = r ∧ k ≤ j)) → mt (x * 6 + j) = Int64.ofInt (mx_D G c x j)) ∧ (((c < x ∧ x < r ∧ c < j) ∨ (x = r ∧ c < j ∧ j < k)) → mt (x * 6 + j) = Int64.ofInt (mx_D G (c + 1) x j))) →
      wX_eliminate_42 post (nI r) (nI c) (Int64.ofInt (mx_D G c c c)) (Int64.ofInt (mx_D G c r c)) (Int64.ofInt (mx_bf G c)) fp lt n (nI k) aA aB aW pt mt := by
  intro n
  induction n with
  | zero => intro k _ _ h; exact absurd h (Nat.not_lt_zero _)
  | succ n ih =>
    intro k hck hk hn mt hmt
    by_cases z : k = 6
    · subst z
      refine br_t (nI_le (a := 6) (b := 6) (Nat.le_refl _) (by decide)) (h mt (fun x j h1 h2 h3 h4 => ⟨fun y => (hmt x j h1 h2 h3 h4).1 ?_, fun y => (hmt x j h1 h2 h3 h4).2 ?_⟩))
      · omega
      · omega
    · have hk6 : k < 6 := by omega
      have i1 : vp_in (nI r * 6 + nI k) 36 := by rw [ix_ij]; exact vp_in_nI (by omega) (by decide)
      have i2 : vp_in (nI c * 6 + nI k) 36 := by rw [ix_ij]; exact vp_in_nI (by omega) (by decide)
      have c1 : (nI r * 6 + nI k).toNatClampNeg = r * 6 + k := by rw [ix_ij]; exact nI_clamp (by omega)
      have c2 : (nI c * 6 + nI k).toNatClampNeg = c * 6 + k := by rw [ix_ij]; exact nI_clamp (by omega)
      refine br_f (nI_ge (b := 6) hk6 (by decide)) (And.intro i1 (And.intro i2 (And.intro (mx_o0 (mx_bbf hG c) hb) (And.intro i1 ?_))))
      rw [c1, c2, (hmt r k (by omega) hr6 hck hk6).1 (Or.inr (Or.inr ⟨rfl, Nat.le_refl _⟩)), (hmt c k (Nat.le_refl _) (by omega) hck hk6).1 (Or.inl rfl)]
      refine nm_e (nm_r (nI_1 k) (ih (k + 1) (by omega) (by omega) (by omega) _ (fun x j h1 h2 h3 h4 => ?_)))
      by_cases y : x = r ∧ j = k
      · obtain ⟨y1, y2⟩ := y
        subst y1 y2
        refine ⟨fun u => absurd u (by omega), fun u => ?_⟩
        rw [pk_uLs]
        exact mx_dv (mx_bD hG _ _ _) (mx_bD hG _ _ _) (mx_bD hG _ _ _) (mx_bD hG _ _ _) (mx_bbf hG c) hb (mx_D_s h00 h0 hc hr)
      · rw [pk_uLn (by omega : x * 6 + j ≠ r * 6 + k)]
        exact ⟨fun u => (hmt x j h1 h2 h3 h4).1 (by omega), fun u => (hmt x j h1 h2 h3 h4).2 (by omega)⟩
theorem px_el {post : SX → Prop} {mt : Nat → Int64} (hG : ∀ i j, (G i j).natAbs ≤ 10) (h00 : G 0 0 = 1) (h0 : ∀ r, 0 < r → G r 0 = 0) (hb : mx_bf G c ≠ 0) (hc : c < 5) (hr : c < r) (hr6 : r < 6)
    (hR : px_R G c r mt) (h : ∀ mt', px_R G c (r + 1) mt' → post (fp, lt, aA, aB, aW, pt, mt')) :
    wpX_eliminate post (fp, lt, aA, aB, aW, pt, mt) (nI r) (nI c) (Int64.ofInt (mx_bf G c)) := by
  have i1 : vp_in (nI c * 6 + nI c) 36 := by rw [ix_ij]; exact vp_in_nI (by omega) (by decide)
  have i2 : vp_in (nI r * 6 + nI c) 36 := by rw [ix_ij]; exact vp_in_nI (by omega) (by decide)
  have c1 : (nI c * 6 + nI c).toNatClampNeg = c * 6 + c := by rw [ix_ij]; exact nI_clamp (by omega)
  have c2 : (nI r * 6 + nI c).toNatClampNeg = r * 6 + c := by rw [ix_ij]; exact nI_clamp (by omega)
  refine And.intro i1 (nm_r (e' := Int64.ofInt (mx_D G c c c)) ?_ (And.intro i2 (nm_r (e' := Int64.ofInt (mx_D G c r c)) ?_ (br_f (mx_o0 (mx_bbf hG c) hb) (Exists.intro 7 ?_)))))
  · rw [c1]; exact (hR c c (Nat.le_refl _) (by omega) (Nat.le_refl _) (by omega)).1 (Or.inl rfl)
  · rw [c2]; exact (hR r c (by omega) hr6 (Nat.le_refl _) (by omega)).1 (Or.inr (Nat.le_refl _))
  · exact px_el42 hG h00 h0 hb hc hr hr6 h 7 c (Nat.le_refl _) (by omega) (by omega) mt (fun x j h1 h2 h3 h4 => ⟨fun u => (hR x j h1 h2 h3 h4).1 (by omega), fun u => (hR x j h1 h2 h3 h4).2 (by omega)⟩)
theorem px_det37 {post : Int64 → SX → Prop} {J : Int64 → Int32 → Int32 → Int32 → (Nat → Int32) → (Nat → Int32) → (Nat → Int32) → (Nat → Int32) → (Nat → Int64) → Prop} {x4 : Int64}
    (hG : ∀ i j, (G i j).natAbs ≤ 10) (h00 : G 0 0 = 1) (h0 : ∀ r, 0 < r → G r 0 = 0) (hb : mx_bf G c ≠ 0) (hc : c < 6)
    (h : ∀ mt', px_R G c 6 mt' → J x4 (nI (c + 1)) fp lt aA aB aW pt mt') :
    ∀ n r, c < r → r ≤ 6 → 6 - r < n → ∀ mt : Nat → Int64, px_R G c r mt → wX_determinant_37 post J (Int64.ofInt (mx_bf G c)) (nI c) x4 n (nI r) fp lt aA aB aW pt mt := by
  intro n
  induction n with
  | zero => intro r _ _ h; exact absurd h (Nat.not_lt_zero _)
  | succ n ih =>
    intro r hr hr6 hn mt hR
    by_cases z : r = 6
    · subst z
      exact br_t (nI_le (a := 6) (b := 6) (Nat.le_refl _) (by decide)) (nm_r (nI_1 c) (h mt hR))
    · exact br_f (nI_ge (b := 6) (by omega) (by decide)) (px_el hG h00 h0 hb (by omega) hr (by omega) hR (fun mt' hR' => nm_r (nI_1 r) (ih (r + 1) (by omega) (by omega) (by omega) mt' hR')))
theorem px_det4 {post : Int64 → SX → Prop} (hG : ∀ i j, (G i j).natAbs ≤ 10) (h00 : G 0 0 = 1) (h0 : ∀ r, 0 < r → G r 0 = 0) (hD : ∀ c, c < 6 → 0 < mx_D G c c c)
    (h : ∀ mt', post (Int64.ofInt (mx_det G)) (fp, lt, aA, aB, aW, pt, mt')) :
    ∀ n c, c ≤ 6 → 6 - c < n → ∀ mt : Nat → Int64, (∀ x k, c ≤ x → x < 6 → c ≤ k → k < 6 → mt (x * 6 + k) = Int64.ofInt (mx_D G c x k)) →
      wX_determinant_4 post n (Int64.ofInt (mx_bf G c)) (nI c) fp lt aA aB aW pt mt := by
  intro n
  induction n with
  | zero => intro c _ h; exact absurd h (Nat.not_lt_zero _)
  | succ n ih =>
    intro c hc hn mt hmt
    by_cases z : c = 6
    · subst z
      exact br_t (nI_le (a := 6) (b := 6) (Nat.le_refl _) (by decide)) (h mt)
    · have hc6 : c < 6 := by omega
      have i1 : vp_in (nI c * 6 + nI c) 36 := by rw [ix_ij]; exact vp_in_nI (by omega) (by decide)
      have c1 : (nI c * 6 + nI c).toNatClampNeg = c * 6 + c := by rw [ix_ij]; exact nI_clamp (by omega)
      have hb : mx_bf G c ≠ 0 := by
        cases c with
        | zero => exact (by decide : (1 : Int) ≠ 0)
        | succ c => have := hD c (by omega); show mx_D G c c c ≠ 0; omega
      refine br_f (nI_ge (b := 6) hc6 (by decide)) (And.intro i1 (nm_r (e' := Int64.ofInt (mx_D G c c c)) ?_ (br_f (mx_o0 (mx_bD hG c c c) (by have := hD c hc6; omega)) (nm_r (nI_1 c) (Exists.intro 7 ?_)))))
      · rw [c1]; exact hmt c c (Nat.le_refl _) hc6 (Nat.le_refl _) hc6
      · refine px_det37 hG h00 h0 hb hc6 (fun mt' hR => ?_) 7 (c + 1) (by omega) (by omega) (by omega) mt (fun x k h1 h2 h3 h4 => ⟨fun _ => hmt x k h1 h2 h3 h4, fun u => absurd u (by omega)⟩)
        exact ih (c + 1) (by omega) (by omega) mt' (fun x k h1 h2 h3 h4 => (hR x k (by omega) h2 (by omega) h4).2 ⟨by omega, h2, by omega⟩)
theorem px_det {post : Int64 → SX → Prop} {mt : Nat → Int64} (hG : ∀ i j, (G i j).natAbs ≤ 10) (h00 : G 0 0 = 1) (h0 : ∀ r, 0 < r → G r 0 = 0) (hD : ∀ c, c < 6 → 0 < mx_D G c c c)
    (hmt : ∀ x k, x < 6 → k < 6 → mt (x * 6 + k) = Int64.ofInt (G x k)) (h : ∀ mt', post (Int64.ofInt (mx_det G)) (fp, lt, aA, aB, aW, pt, mt')) :
    wpX_determinant post (fp, lt, aA, aB, aW, pt, mt) :=
  Exists.intro 7 (px_det4 hG h00 h0 hD h 7 0 (by omega) (by omega) mt (fun x k _ h2 _ h4 => hmt x k h2 h4))
end
end
section
/-! ===== countOver ===== -/
/-- the array holds the matrix M -/
def px_M (mt : Nat → Int64) (M : Nat → Nat → Int) : Prop := ∀ x k, x < 6 → k < 6 → mt (x * 6 + k) = Int64.ofInt (M x k)
def mx_u (M : Nat → Nat → Int) (i j : Nat) (v : Int) : Nat → Nat → Int := fun a b => if a = i ∧ b = j then v else M a b
theorem px_M_u {mt : Nat → Int64} {M : Nat → Nat → Int} {i j : Nat} {v : Int} (h : px_M mt M) (hj : j < 6) : px_M (vp_updL mt (i * 6 + j) (Int64.ofInt v)) (mx_u M i j v) := by
  intro x k hx hk
  unfold mx_u
  by_cases z : x = i ∧ k = j
  · obtain ⟨z1, z2⟩ := z
    subst z1 z2
    rw [pk_uLs, if_pos ⟨rfl, rfl⟩]
  · rw [pk_uLn (by omega : x * 6 + k ≠ i * 6 + j), if_neg z]
    exact h x k hx hk
theorem px_M_inc {mt : Nat → Int64} {M : Nat → Nat → Int} {i j : Nat} (h : px_M mt M) (hi : i < 6) (hj : j < 6) :
    px_M (vp_updL mt (nI i * 6 + nI j).toNatClampNeg (mt (nI i * 6 + nI j).toNatClampNeg + 1)) (mx_u M i j (M i j + 1)) := by
  rw [ix_ij, nI_clamp (by omega), h i j hi hj, show (1 : Int64) = Int64.ofInt 1 from by decide, ← Int64.ofInt_add]
  exact px_M_u h hj
theorem px_M_dec {mt : Nat → Int64} {M : Nat → Nat → Int} {i j : Nat} (h : px_M mt M) (hi : i < 6) (hj : j < 6) :
    px_M (vp_updL mt (nI i * 6 + nI j).toNatClampNeg (mt (nI i * 6 + nI j).toNatClampNeg - 1)) (mx_u M i j (M i j - 1)) := by
  rw [ix_ij, nI_clamp (by omega), h i j hi hj, show (1 : Int64) = Int64.ofInt 1 from by decide, ← Int64.ofInt_sub]
  exact px_M_u h hj
theorem px_M_c {mt : Nat → Int64} {M N : Nat → Nat → Int} (h : px_M mt M) (e : ∀ x k, x < 6 → k < 6 → M x k = N x k) : px_M mt N := fun x k hx hk => by rw [h x k hx hk, e x k hx hk]
/-- four stores are one edge -/
theorem mx_four {M : Nat → Nat → Int} {a b : Nat} (hab : a ≠ b) (x k : Nat) :
    mx_u (mx_u (mx_u (mx_u M a a (M a a + 1)) b b (mx_u M a a (M a a + 1) b b + 1)) a b (mx_u (mx_u M a a (M a a + 1)) b b (mx_u M a a (M a a + 1) b b + 1) a b - 1)) b a
      (mx_u (mx_u (mx_u M a a (M a a + 1)) b b (mx_u M a a (M a a + 1) b b + 1)) a b (mx_u (mx_u M a a (M a a + 1)) b b (mx_u M a a (M a a + 1) b b + 1) a b - 1) b a - 1) x k
    = M x k + (mx_dl a x - mx_dl b x) * (mx_dl a k - mx_dl b k) := by
  have hba : b ≠ a := fun t => hab t.symm
  have e1 : mx_u M a a (M a a + 1) b b = M b b := if_neg (fun t => hba t.1)
  rw [e1]
  have e2 : mx_u (mx_u M a a (M a a + 1)) b b (M b b + 1) a b = M a b := by
    unfold mx_u
    rw [if_neg (fun t => hab t.1), if_neg (fun t => hba t.2)]
  rw [e2]
  have e3 : mx_u (mx_u (mx_u M a a (M a a + 1)) b b (M b b + 1)) a b (M a b - 1) b a = M b a := by
    unfold mx_u
    rw [if_neg (fun t => hba t.1), if_neg (fun t => hab t.2), if_neg (fun t => hba t.1)]
  rw [e3]
  unfold mx_u mx_dl
  by_cases xa : x = a
  · subst xa
    by_cases ka : k = x
    · subst ka
      simp [hab, hba]
    · by_cases kb : k = b
      · subst kb
        simp [hab, hba]
        omega
      · have ka' : ¬ x = k := fun t => ka t.symm
        have kb' : ¬ b = k := fun t => kb t.symm
        simp [hab, hba, ka, kb, ka', kb']
  · by_cases xb : x = b
    · subst xb
      by_cases ka : k = a
      · subst ka
        simp [hab, hba]
        omega
      · by_cases kb : k = x
        · subst kb
          simp [hab, hba]
        · have ka' : ¬ a = k := fun t => ka t.symm
          have kb' : ¬ x = k := fun t => kb t.symm
          simp [hab, hba, ka, kb, ka', kb']
    · have xa' : ¬ a = x := fun t => xa t.symm
      have xb' : ¬ b = x := fun t => xb t.symm
      simp [xa, xb, xa', xb']
theorem mx_dl1 (x i y : Nat) : (mx_dl x i - mx_dl y i).natAbs ≤ 1 := by
  unfold mx_dl
  split <;> split <;> decide
theorem mx_lp_bd {A B q : Nat → Nat} {s : Nat} : ∀ k i j, (mx_lp A B s q k i j).natAbs ≤ k := by
  intro k
  induction k with
  | zero => intro i j; exact Nat.le_refl _
  | succ k ih =>
    intro i j
    show (mx_lp A B s q k i j + (if s.testBit k = true then (mx_dl (q (A k)) i - mx_dl (q (B k)) i) * (mx_dl (q (A k)) j - mx_dl (q (B k)) j) else 0)).natAbs ≤ k + 1
    have h1 := ih i j
    have h2 := mx_mb (mx_dl1 (q (A k)) i (q (B k))) (mx_dl1 (q (A k)) j (q (B k)))
    split
    · omega
    · omega
theorem gx_lb_sub {A B q : Nat → Nat} {S T : Nat → Prop} (h : gx_lb A B S q) (h1 : ∀ e, S e → T e) (h2 : ∀ e, T e → gx_cl A B S e) : gx_lb A B T q :=
  fun v hv => ⟨(h v hv).1, gx_mono h1 (h v hv).2.1, fun u hu c => (h v hv).2.2 u hu (gx_lift h2 c)⟩
/-- a label with no edge is a label still -/
theorem mx_diag {A B q r : Nat → Nat} {s : Nat} {S : Nat → Prop} (hs : s < 1024) (hA : ∀ j, A j < 6) (hB : ∀ j, B j < 6) (hq : gx_lb A B S q) (hl : gx_ll q) (hr : gx_lb A B (fun j => S j ∨ gx_bs s j) r) (hrl : gx_ll r)
    {v : Nat} (hv : v < 6) : (mx_g q r v = true ↔ (r v = v ∨ mx_lp A B s q 10 v v = 0)) := by
  unfold mx_g
  rw [decide_eq_true_eq]
  have nn : ∀ k, 0 ≤ mx_lp A B s q k v v ∧ (mx_lp A B s q k v v = 0 → ∀ e, e < k → gx_bs s e → (q (A e) = v ↔ q (B e) = v)) := by
    intro k
    induction k with
    | zero => exact ⟨Int.le_refl _, fun _ e he => absurd he (Nat.not_lt_zero _)⟩
    | succ k ih =>
      have st : mx_lp A B s q (k + 1) v v = mx_lp A B s q k v v + (if s.testBit k = true then (mx_dl (q (A k)) v - mx_dl (q (B k)) v) * (mx_dl (q (A k)) v - mx_dl (q (B k)) v) else 0) := rfl
      have sq : 0 ≤ (mx_dl (q (A k)) v - mx_dl (q (B k)) v) * (mx_dl (q (A k)) v - mx_dl (q (B k)) v) ∧ ((mx_dl (q (A k)) v - mx_dl (q (B k)) v) * (mx_dl (q (A k)) v - mx_dl (q (B k)) v) = 0 → (q (A k) = v ↔ q (B k) = v)) := by
        unfold mx_dl
        by_cases y1 : q (A k) = v
        · by_cases y2 : q (B k) = v
          · rw [if_pos y1, if_pos y2]; exact ⟨by decide, fun _ => ⟨fun _ => y2, fun _ => y1⟩⟩
          · rw [if_pos y1, if_neg y2]; exact ⟨by decide, fun t => absurd t (by decide)⟩
        · by_cases y2 : q (B k) = v
          · rw [if_neg y1, if_pos y2]; exact ⟨by decide, fun t => absurd t (by decide)⟩
          · rw [if_neg y1, if_neg y2]; exact ⟨by decide, fun _ => ⟨fun t => absurd t y1, fun t => absurd t y2⟩⟩
      rw [st]
      by_cases z : s.testBit k = true
      · rw [if_pos z]
        have a := ih.1
        have b := sq.1
        refine ⟨by omega, fun t e he hb => ?_⟩
        by_cases y : e = k
        · subst y; exact sq.2 (by omega)
        · exact ih.2 (by omega) e (by omega) hb
      · rw [if_neg z]
        have a := ih.1
        refine ⟨by omega, fun t e he hb => ?_⟩
        by_cases y : e = k
        · subst y; exact absurd hb z
        · exact ih.2 (by omega) e (by omega) hb
  constructor
  · intro h
    rcases h with h | h
    · refine Or.inr ?_
      have nq : ∀ x, x < 6 → q x ≠ v := fun x hx t => h (by rw [← t]; exact gx_lb_i hq hx)
      have key : ∀ k, mx_lp A B s q k v v = 0 := by
        intro k
        induction k with
        | zero => rfl
        | succ k ih =>
          show mx_lp A B s q k v v + (if s.testBit k = true then (mx_dl (q (A k)) v - mx_dl (q (B k)) v) * (mx_dl (q (A k)) v - mx_dl (q (B k)) v) else 0) = 0
          rw [ih, mx_dl_n (nq _ (hA k)), mx_dl_n (nq _ (hB k))]
          simp
      exact key 10
    · exact Or.inl h
  · intro h
    rcases h with h | h
    · exact Or.inr h
    · by_cases z : q v = v
      · refine Or.inr ?_
        have hh := (nn 10).2 h
        have c := (hr v hv).2.1 (fun x => x < 6 → q x = v) (fun e he => by
          rcases he with he | he
          · have : q (A e) = q (B e) := (gx_lb_iff hq (hA e) (hB e)).mpr (gx_ed he)
            exact ⟨fun t _ => by rw [← this]; exact t (hA e), fun t _ => by rw [this]; exact t (hB e)⟩
          · have := hh e (gx_lt10 hs he) he
            exact ⟨fun t _ => this.mp (t (hA e)), fun t _ => this.mpr (t (hB e))⟩)
        have c1 := c.mp (fun _ => z) (hr v hv).1
        have c2 := hl (r v) (hr v hv).1
        have c3 := hrl v hv
        omega
      · exact Or.inl z
section
variable {fp lt : Int32} {aA aB aW pt : Nat → Int32}
theorem px_gr2 {post : SX → Prop} {M : Nat → Nat → Int} {v : Nat} (hv : v < 6) (h : ∀ mt', px_M mt' (fun a b => if a = v ∨ b = v then mx_dl a b else M a b) → post (fp, lt, aA, aB, aW, pt, mt')) :
    ∀ n k, k ≤ 6 → 6 - k < n → ∀ mt : Nat → Int64, px_M mt (fun a b => if (a = v ∧ b < k) ∨ (b = v ∧ a < k) then 0 else M a b) → wX_ground_2 post (nI v) fp lt n (nI k) aA aB aW pt mt := by
  intro n
  induction n with
  | zero => intro k _ h; exact absurd h (Nat.not_lt_zero _)
  | succ n ih =>
    intro k hk hn mt hM
    by_cases z : k = 6
    · subst z
      have i1 : vp_in (nI v * 6 + nI v) 36 := by rw [ix_ij]; exact vp_in_nI (by omega) (by decide)
      refine br_t (nI_le (a := 6) (b := 6) (Nat.le_refl _) (by decide)) (And.intro i1 (nm_r (e' := vp_updL mt (v * 6 + v) (Int64.ofInt 1)) (by rw [ix_ij, nI_clamp (by omega)]; rfl) (h _ (px_M_c (px_M_u hM hv) (fun x k hx hk => ?_)))))
      unfold mx_u
      dsimp only
      by_cases c1 : x = v ∧ k = v
      · rw [if_pos c1, if_pos (Or.inl c1.1), c1.1, c1.2, mx_dl_s]
      · rw [if_neg c1]
        by_cases c2 : x = v ∨ k = v
        · rw [if_pos (by omega), if_pos c2, mx_dl_n (by omega)]
        · rw [if_neg (by omega), if_neg c2]
    · have hk6 : k < 6 := by omega
      have i1 : vp_in (nI v * 6 + nI k) 36 := by rw [ix_ij]; exact vp_in_nI (by omega) (by decide)
      have i2 : vp_in (nI k * 6 + nI v) 36 := by rw [ix_ij]; exact vp_in_nI (by omega) (by decide)
      refine br_f (nI_ge (b := 6) hk6 (by decide)) (And.intro i1 (nm_r (e' := vp_updL mt (v * 6 + k) (Int64.ofInt 0)) (by rw [ix_ij, nI_clamp (by omega)]; rfl) (And.intro i2 (nm_r (e' := vp_updL (vp_updL mt (v * 6 + k) (Int64.ofInt 0)) (k * 6 + v) (Int64.ofInt 0)) (by rw [ix_ij, nI_clamp (by omega)]; rfl) (nm_r (nI_1 k) (ih (k + 1) (by omega) (by omega) _ (px_M_c (px_M_u (px_M_u hM hk6) hv) (fun x j hx hj => ?_))))))))
      unfold mx_u
      dsimp only
      by_cases c1 : x = k ∧ j = v
      · rw [if_pos c1, if_pos (by omega)]
      · rw [if_neg c1]
        by_cases c2 : x = v ∧ j = k
        · rw [if_pos c2, if_pos (by omega)]
        · rw [if_neg c2]
          by_cases c3 : (x = v ∧ j < k) ∨ (j = v ∧ x < k)
          · rw [if_pos c3, if_pos (by omega)]
          · rw [if_neg c3, if_neg (by omega)]
theorem px_gr {post : SX → Prop} {M : Nat → Nat → Int} {v : Nat} {mt : Nat → Int64} (hv : v < 6) (hM : px_M mt M) (h : ∀ mt', px_M mt' (fun a b => if a = v ∨ b = v then mx_dl a b else M a b) → post (fp, lt, aA, aB, aW, pt, mt')) :
    wpX_ground post (fp, lt, aA, aB, aW, pt, mt) (nI v) :=
  Exists.intro 7 (px_gr2 hv h 7 0 (by omega) (by omega) mt (px_M_c hM (fun x k _ _ => (if_neg (by omega)).symm)))
/-- taking the vertices out -/
theorem px_c204 {post : Int64 → SX → Prop} {L : Nat → Nat → Int} {g : Nat → Bool} {r : Nat → Nat} (hP : px_P pt r) (hr6 : ∀ v, v < 6 → r v < 6) (hL : ∀ i j, (L i j).natAbs ≤ 10)
    (hg : ∀ v, v < 6 → (g v = true ↔ (r v = v ∨ L v v = 0)))
    (h : ∀ mt', px_M mt' (mx_gd g L) → wpX_determinant (fun r_5 u => match u with | (f_present_6, f_lastTaken_7, a_endA_8, a_endB_9, a_weights_10, a_part_11, a_matrix_12) => (post r_5 (f_present_6, f_lastTaken_7, a_endA_8, a_endB_9, a_weights_10, a_part_11, a_matrix_12))) (fp, lt, aA, aB, aW, pt, mt')) :
    ∀ n v, v ≤ 6 → 6 - v < n → ∀ mt : Nat → Int64, px_M mt (fun a b => if (a < v ∧ g a = true) ∨ (b < v ∧ g b = true) then mx_dl a b else L a b) → wX_countOver_204 post n (nI v) fp lt aA aB aW pt mt := by
  intro n
  induction n with
  | zero => intro v _ h; exact absurd h (Nat.not_lt_zero _)
  | succ n ih =>
    intro v hv hn mt hM
    by_cases z : v = 6
    · subst z
      refine br_t (nI_le (a := 6) (b := 6) (Nat.le_refl _) (by decide)) (h mt (px_M_c hM (fun x k hx hk => ?_)))
      unfold mx_gd
      by_cases c : g x = true ∨ g k = true
      · rw [if_pos c, if_pos (c.elim (fun t => Or.inl ⟨hx, t⟩) (fun t => Or.inr ⟨hk, t⟩))]
      · rw [if_neg c, if_neg (fun t => c (t.elim (fun t => Or.inl t.2) (fun t => Or.inr t.2)))]
    · have hv6 : v < 6 := by omega
      have i1 : vp_in (nI v * 6 + nI v) 36 := by rw [ix_ij]; exact vp_in_nI (by omega) (by decide)
      have gr : g v = true → wX_countOver_236 post (wX_countOver_204 post n) (nI v) fp lt aA aB aW pt mt := by
        intro gv
        unfold wX_countOver_236
        refine px_gr hv6 hM (fun mt' hM' => nm_r (nI_1 v) (ih (v + 1) (by omega) (by omega) mt' (px_M_c hM' (fun x k hx hk => ?_))))
        by_cases c : x = v ∨ k = v
        · rw [if_pos c, if_pos (c.elim (fun t => Or.inl ⟨by omega, t ▸ gv⟩) (fun t => Or.inr ⟨by omega, t ▸ gv⟩))]
        · rw [if_neg c]
          by_cases c2 : (x < v ∧ g x = true) ∨ (k < v ∧ g k = true)
          · rw [if_pos c2, if_pos (c2.elim (fun t => Or.inl ⟨by omega, t.2⟩) (fun t => Or.inr ⟨by omega, t.2⟩))]
          · rw [if_neg c2, if_neg (fun t => c2 (t.elim (fun t => Or.inl ⟨by omega, t.2⟩) (fun t => Or.inr ⟨by omega, t.2⟩)))]
      refine br_f (nI_ge (b := 6) hv6 (by decide)) (And.intro (vp_in_nI hv6 (by decide)) ?_)
      rw [nI_clamp (by omega), hP v hv6, nI_eq (by have := hr6 v hv6; omega) (by omega)]
      refine br_c (fun y => gr ((hg v hv6).mpr (Or.inl y))) (fun y => And.intro i1 ?_)
      rw [ix_ij, nI_clamp (by omega), hM v v hv6 hv6]
      show (Int64.ofInt (if (v < v ∧ g v = true) ∨ (v < v ∧ g v = true) then mx_dl v v else L v v) = 0 → _) ∧ (¬ Int64.ofInt (if (v < v ∧ g v = true) ∨ (v < v ∧ g v = true) then mx_dl v v else L v v) = 0 → _)
      rw [if_neg (by omega)]
      refine br_c (fun u => gr ((hg v hv6).mpr (Or.inr ?_))) (fun u => nm_r (nI_1 v) (ih (v + 1) (by omega) (by omega) mt (px_M_c hM (fun x k hx hk => ?_))))
      · exact Classical.byContradiction (fun t => mx_o0 (Nat.le_trans (hL v v) (by decide)) t u)
      · have ng : ¬ g v = true := fun t => ((hg v hv6).mp t).elim y (fun t => u (by rw [t]; rfl))
        by_cases c2 : (x < v ∧ g x = true) ∨ (k < v ∧ g k = true)
        · rw [if_pos c2, if_pos (c2.elim (fun t => Or.inl ⟨by omega, t.2⟩) (fun t => Or.inr ⟨by omega, t.2⟩))]
        · rw [if_neg c2, if_neg (fun t => ?_)]
          rcases t with t | t
          · by_cases w : x = v
            · rw [w] at t; exact ng t.2
            · exact c2 (Or.inl ⟨by omega, t.2⟩)
          · by_cases w : k = v
            · rw [w] at t; exact ng t.2
            · exact c2 (Or.inr ⟨by omega, t.2⟩)
end
end
section
/-! ===== countOver: its loops and its answer ===== -/
/-- the edges of s between different labels -/
def gx_ln (A B : Nat → Nat) (q : Nat → Nat) (s : Nat) (k : Nat) : Nat := gx_fl (fun e => s.testBit e && decide (q (A e) ≠ q (B e))) k
section
variable {fp lt : Int32} {A B q : Nat → Nat} {aW pt : Nat → Int32} {s : Nat} {S : Nat → Prop}
theorem px_c166 {post : Int64 → SX → Prop} {ln : Nat} {mt : Nat → Int64} (hA : ∀ j, A j < 6) (hB : ∀ j, B j < 6) (hln : ln < 1024)
    (h : ∀ pt' r, px_P pt' r → gx_lb A B (fun j => S j ∨ gx_bs ln j) r → gx_ll r → ∃ n, wX_countOver_204 post n 0 fp lt (ix_nf A) (ix_nf B) aW pt' mt) :
    ∀ n e, e ≤ 10 → 10 - e < n → ∀ (pt : Nat → Int32) (r : Nat → Nat), px_P pt r → gx_lb A B (fun j => S j ∨ (gx_bs ln j ∧ j < e)) r → gx_ll r →
      wX_countOver_166 post (nI ln) n (nI e) fp lt (ix_nf A) (ix_nf B) aW pt mt := by
  intro n
  induction n with
  | zero => intro e _ h; exact absurd h (Nat.not_lt_zero _)
  | succ n ih =>
    intro e he hn pt r hP hr hl
    by_cases z : e = 10
    · subst z
      exact br_t (nI_le (a := 10) (b := 10) (Nat.le_refl _) (by decide)) (h pt r hP (gx_lb_c hr (fun j => ⟨fun t => t.elim Or.inl (fun t => Or.inr t.1), fun t => t.elim Or.inl (fun t => Or.inr ⟨t, gx_lt10 hln t⟩)⟩)) hl)
    · have e10 : e < 10 := by omega
      have hb0 : ((nI ln >>> (nI e &&& 31)) &&& 1) = 0 ↔ ¬ gx_bs ln e := ix_bit0 (by omega) (by omega)
      have hin : vp_in (nI e) 10 := vp_in_nI e10 (by decide)
      refine br_f (nI_ge (b := 10) e10 (by decide)) (br_c (fun y => nm_r (nI_1 e) (ih (e + 1) (by omega) (by omega) pt r hP (gx_lb_c hr (fun j => ?_)) hl)) (fun y => And.intro hin (And.intro hin ?_)))
      · have y' := hb0.mp y
        constructor
        · exact fun t => t.elim Or.inl (fun t => Or.inr ⟨t.1, by omega⟩)
        · intro t
          rcases t with t | t
          · exact Or.inl t
          · have : j ≠ e := fun u => y' (u ▸ t.1)
            exact Or.inr ⟨t.1, by omega⟩
      · have y' : gx_bs ln e := Classical.byContradiction (fun t => y (hb0.mpr t))
        rw [nI_clamp (by omega)]
        refine px_join (x := A e) (y := B e) hP (fun v hv => (hr v hv).1) (hA e) (hB e) (fun pt' hP' => nm_r (nI_1 e) (ih (e + 1) (by omega) (by omega) pt' _ hP' (gx_lb_c (gx_lb_mg hr (hA e) (hB e)) (fun j => ?_)) (gx_ll_mg hl _ _)))
        constructor
        · intro t
          rcases t with (t | t) | t
          · exact Or.inl t
          · exact Or.inr ⟨t.1, by omega⟩
          · exact Or.inr ⟨t ▸ y', by omega⟩
        · intro t
          rcases t with t | t
          · exact Or.inl (Or.inl t)
          · by_cases u : j = e
            · exact Or.inr u
            · exact Or.inl (Or.inr ⟨t.1, by omega⟩)
theorem px_c25 {post : Int64 → SX → Prop} (hA : ∀ j, A j < 6) (hB : ∀ j, B j < 6) (hs : s < 1024) (hP : px_P pt q) (hq : ∀ v, v < 6 → q v < 6)
    (h : ∀ mt', px_M mt' (mx_lp A B s q 10) → ∃ n, wX_countOver_166 post (nI (gx_ln A B q s 10)) n 0 fp lt (ix_nf A) (ix_nf B) aW pt mt') :
    ∀ n e, e ≤ 10 → 10 - e < n → ∀ mt : Nat → Int64, px_M mt (mx_lp A B s q e) →
      wX_countOver_25 post (nI s) fp lt n (nI (gx_ln A B q s e)) (nI e) (ix_nf A) (ix_nf B) aW pt mt := by
  intro n
  induction n with
  | zero => intro e _ h; exact absurd h (Nat.not_lt_zero _)
  | succ n ih =>
    intro e he hn mt hM
    by_cases z : e = 10
    · subst z
      exact br_t (nI_le (a := 10) (b := 10) (Nat.le_refl _) (by decide)) (h mt hM)
    · have e10 : e < 10 := by omega
      have hb0 : ((nI s >>> (nI e &&& 31)) &&& 1) = 0 ↔ ¬ gx_bs s e := ix_bit0 (by omega) (by omega)
      have hin : vp_in (nI e) 10 := vp_in_nI e10 (by decide)
      have hcl : (nI e).toNatClampNeg = e := nI_clamp (by omega)
      have st : gx_ln A B q s (e + 1) = if (s.testBit e && decide (q (A e) ≠ q (B e))) = true then gx_ln A B q s e ||| 2 ^ e else gx_ln A B q s e := rfl
      have sl : ∀ i j, mx_lp A B s q (e + 1) i j = mx_lp A B s q e i j + (if s.testBit e = true then (mx_dl (q (A e)) i - mx_dl (q (B e)) i) * (mx_dl (q (A e)) j - mx_dl (q (B e)) j) else 0) := fun _ _ => rfl
      have I := ih (e + 1) (by omega) (by omega)
      refine br_f (nI_ge (b := 10) e10 (by decide)) (br_c (fun y => nm_r (nI_1 e) ?_) (fun y => And.intro hin (And.intro hin ?_)))
      · have y' : ¬ s.testBit e = true := hb0.mp y
        rw [st, if_neg (by rw [Bool.and_eq_true]; exact fun t => y' t.1)] at I
        exact I mt (px_M_c hM (fun i j _ _ => by rw [sl, if_neg y', Int.add_zero]))
      · have y' : s.testBit e = true := Classical.byContradiction (fun t => y (hb0.mpr t))
        rw [hcl]
        refine px_joined (x := A e) (y := B e) hP hq (hA e) (hB e) (fun hj => ?_) (fun hj => ?_)
        · refine br_f (by decide) (nm_r (nI_1 e) ?_)
          rw [st, if_neg (by rw [Bool.and_eq_true, decide_eq_true_eq]; exact fun t => t.2 hj)] at I
          exact I mt (px_M_c hM (fun i j _ _ => by rw [sl, if_pos y', hj]; simp))
        · have qa := hq _ (hA e)
          have qb := hq _ (hB e)
          have cA : (ix_nf A e).toNatClampNeg = A e := nI_clamp (by have := hA e; omega)
          have cB : (ix_nf B e).toNatClampNeg = B e := nI_clamp (by have := hB e; omega)
          have iA : vp_in (ix_nf A e) 6 := vp_in_nI (hA e) (by decide)
          have iB : vp_in (ix_nf B e) 6 := vp_in_nI (hB e) (by decide)
          have iaa : vp_in (nI (q (A e)) * 6 + nI (q (A e))) 36 := by rw [ix_ij]; exact vp_in_nI (by omega) (by decide)
          have ibb : vp_in (nI (q (B e)) * 6 + nI (q (B e))) 36 := by rw [ix_ij]; exact vp_in_nI (by omega) (by decide)
          have iab : vp_in (nI (q (A e)) * 6 + nI (q (B e))) 36 := by rw [ix_ij]; exact vp_in_nI (by omega) (by decide)
          have iba : vp_in (nI (q (B e)) * 6 + nI (q (A e))) 36 := by rw [ix_ij]; exact vp_in_nI (by omega) (by decide)
          refine br_t rfl (And.intro hin (And.intro iA (nm_r (e' := nI (q (A e))) (by rw [cA]; exact hP _ (hA e)) (And.intro hin (And.intro iB (nm_r (e' := nI (q (B e))) (by rw [cB]; exact hP _ (hB e)) ?_))))))
          refine And.intro iaa (And.intro iaa (fun m1 e1 => And.intro ibb (And.intro ibb (fun m2 e2 => And.intro iab (And.intro iab (fun m3 e3 => And.intro iba (And.intro iba (fun m4 e4 => ?_))))))))
          have M1 : px_M m1 _ := e1 ▸ px_M_inc hM qa qa
          have M2 : px_M m2 _ := e2 ▸ px_M_inc M1 qb qb
          have M3 : px_M m3 _ := e3 ▸ px_M_dec M2 qa qb
          have M4 : px_M m4 _ := e4 ▸ px_M_dec M3 qb qa
          refine nm_r (e' := nI (gx_ln A B q s (e + 1))) ?_ (nm_r (nI_1 e) (I m4 (px_M_c M4 (fun i j _ _ => ?_))))
          · rw [ix_set (by omega), st, if_pos (by rw [Bool.and_eq_true, decide_eq_true_eq]; exact ⟨y', hj⟩)]
            rfl
          · rw [sl, if_pos y']
            exact mx_four hj i j
theorem px_c2 {post : Int64 → SX → Prop} {aA aB : Nat → Int32} (h : ∀ mt', px_M mt' (fun _ _ => 0) → ∃ n, wX_countOver_25 post (nI s) fp lt n 0 0 aA aB aW pt mt') :
    ∀ n i, i ≤ 36 → 36 - i < n → ∀ mt : Nat → Int64, (∀ c, c < i → mt c = 0) → wX_countOver_2 post (nI s) fp lt n (nI i) aA aB aW pt mt := by
  intro n
  induction n with
  | zero => intro i _ h; exact absurd h (Nat.not_lt_zero _)
  | succ n ih =>
    intro i hi hn mt hM
    by_cases z : i = 36
    · subst z
      exact br_t (nI_le (a := 36) (b := 36) (Nat.le_refl _) (by decide)) (h mt (fun x k hx hk => hM (x * 6 + k) (by omega)))
    · refine br_f (nI_ge (b := 36) (by omega) (by decide)) (And.intro (vp_in_nI (by omega) (by decide)) (nm_r (e' := vp_updL mt i 0) (by rw [nI_clamp (by omega)]) (nm_r (nI_1 i) (ih (i + 1) (by omega) (by omega) _ (fun c hc => ?_)))))
      by_cases y : c = i
      · subst y; exact pk_uLs
      · rw [pk_uLn y]; exact hM c (by omega)
/-- countOver answers the number of bases of s over S -/
theorem px_count {post : Int64 → SX → Prop} {mt : Nat → Int64} (hA : ∀ j, A j < 6) (hB : ∀ j, B j < 6) (hs : s < 1024) (hq : gx_lb A B S q) (hl : gx_ll q) (hP : px_P pt q)
    (h : ∀ pt' mt', post (lN (gx_sm (fun m => gx_b (gx_BA A B s S m)) 1024)) (fp, lt, ix_nf A, ix_nf B, aW, pt', mt')) :
    wpX_countOver post (fp, lt, ix_nf A, ix_nf B, aW, pt, mt) (nI s) := by
  have hq6 : ∀ v, v < 6 → q v < 6 := fun v hv => (hq v hv).1
  refine Exists.intro 37 (px_c2 (fun mt1 hM1 => ⟨11, px_c25 hA hB hs hP hq6 (fun mt2 hM2 => ⟨11, ?_⟩) 11 0 (by omega) (by omega) mt1 hM1⟩) 37 0 (by omega) (by omega) mt (fun c hc => absurd hc (Nat.not_lt_zero _)))
  have hlb : ∀ j, (gx_bs (gx_ln A B q s 10) j ↔ (gx_bs s j ∧ q (A j) ≠ q (B j))) := by
    intro j
    unfold gx_ln
    rw [gx_fl_b, Bool.and_eq_true, decide_eq_true_eq]
    exact ⟨fun t => t.2, fun t => ⟨gx_lt10 hs t.1, t⟩⟩
  refine px_c166 (S := S) hA hB (gx_fl_lt _ 10) (fun pt3 r hP3 hr0 hrl => ?_) 11 0 (by omega) (by omega) pt q hP (gx_lb_c hq (fun j => ⟨Or.inl, fun t => t.elim id (fun t => absurd t.2 (Nat.not_lt_zero _))⟩)) hl
  have hr : gx_lb A B (fun j => S j ∨ gx_bs s j) r := gx_lb_sub hr0 (fun e t => t.elim Or.inl (fun t => Or.inr ((hlb e).mp t).1)) (fun e t => by
    rcases t with t | t
    · exact gx_ed (Or.inl t)
    · by_cases y : q (A e) = q (B e)
      · exact gx_cmono (fun _ => Or.inl) ((gx_lb_iff hq (hA e) (hB e)).mp y)
      · exact gx_ed (Or.inr ((hlb e).mpr ⟨t, y⟩)))
  have hr6 : ∀ v, v < 6 → r v < 6 := fun v hv => (hr v hv).1
  have hL : ∀ i j, (mx_lp A B s q 10 i j).natAbs ≤ 10 := mx_lp_bd 10
  have hH := gx_lb_H hq hl hr hrl (fun e t => Or.inl t)
  have hE : ∀ e, e < 10 → s.testBit e = true → A e < 6 ∧ B e < 6 ∧ r (A e) = r (B e) := fun e _ he => ⟨hA e, hB e, (gx_lb_iff hr (hA e) (hB e)).mpr (gx_ed (Or.inr he))⟩
  have hc : ∀ f : Nat → Nat, (∀ v, v < 6 → f (q v) = f v) → (∀ e, e < 10 → s.testBit e = true → f (A e) = f (B e)) → ∀ v, v < 6 → f (r v) = f v := by
    intro f f1 f2 v hv
    have c := (hr v hv).2.1 (fun x => f x = f v) (fun e he => by
      have : f (A e) = f (B e) := by
        rcases he with he | he
        · rw [← f1 _ (hA e), (gx_lb_iff hq (hA e) (hB e)).mpr (gx_ed he), f1 _ (hB e)]
        · exact f2 e (gx_lt10 hs he) he
      show f (A e) = f v ↔ f (B e) = f v
      rw [this])
    exact c.mp rfl
  have hmin := fun c => mx_minor (A := A) (B := B) (s := s) (q := q) (r := r) c 10 hH (fun v hv => gx_lb_i hr hv) hE hc
  have hg0 : mx_g q r 0 = true := decide_eq_true (Or.inr (by have := hrl 0 (by omega); omega))
  have hdet : mx_det (mx_gd (mx_g q r) (mx_lp A B s q 10)) = ((gx_sm (fun m => gx_b (gx_BA A B s S m)) 1024 : Nat) : Int) := by
    rw [mx_dc 10 q hH hE, gx_cnt hr hrl (fun e _ => ⟨hA e, hB e⟩) 10 q S hq hl (fun i => Iff.rfl)]
  have hG : ∀ i j, (mx_gd (mx_g q r) (mx_lp A B s q 10) i j).natAbs ≤ 10 := by
    intro i j
    unfold mx_gd
    split
    · unfold mx_dl
      split <;> decide
    · exact hL i j
  have h00 : mx_gd (mx_g q r) (mx_lp A B s q 10) 0 0 = 1 := by
    unfold mx_gd
    rw [if_pos (Or.inl hg0), mx_dl_s]
  have h0 : ∀ k, 0 < k → mx_gd (mx_g q r) (mx_lp A B s q 10) k 0 = 0 := by
    intro k hk
    unfold mx_gd
    rw [if_pos (Or.inr hg0), mx_dl_n (by omega)]
  have hD : ∀ c, c < 6 → 0 < mx_D (mx_gd (mx_g q r) (mx_lp A B s q 10)) c c c := by
    intro c hc6
    rcases (by omega : c = 0 ∨ c = 1 ∨ c = 2 ∨ c = 3 ∨ c = 4 ∨ c = 5) with t | t | t | t | t | t <;> subst t
    · show 0 < mx_gd (mx_g q r) (mx_lp A B s q 10) 0 0
      rw [h00]; decide
    · have := hmin 1
      rw [mx_p1] at this
      exact this
    · have := hmin 2
      rw [mx_p2] at this
      exact this
    · have := hmin 3
      rw [mx_p3] at this
      exact this
    · have := hmin 4
      rw [mx_p4] at this
      exact this
    · have := hmin 5
      rw [mx_det_c (N := mx_gd (mx_g q r) (mx_lp A B s q 10)) (fun i j _ i5 _ j5 => if_neg (by omega))] at this
      exact this
  refine ⟨7, px_c204 hP3 hr6 hL (fun v hv => mx_diag hs hA hB hq hl hr hrl hv) (fun mt4 hM4 => ?_) 7 0 (by omega) (by omega) mt2 (px_M_c hM2 (fun x k _ _ => (if_neg (by omega)).symm))⟩
  refine px_det hG h00 h0 hD hM4 (fun mt5 => ?_)
  rw [hdet]
  have e : Int64.ofInt ((gx_sm (fun m => gx_b (gx_BA A B s S m)) 1024 : Nat) : Int) = lN (gx_sm (fun m => gx_b (gx_BA A B s S m)) 1024) := Int64.ofInt_eq_ofNat
  rw [e]
  exact h pt3 mt5
end
end
section
/-! ===== walks of the reference: is, edges, join ===== -/
section
variable {p e : Nat} {A B W : Nat → Nat} {th hv fo sp pt : Nat → Int32} {m : Nat}
theorem py_is {post : Int32 → Prop} {aA aB : Nat → Int32} (he : e < 10) (h1 : gx_bs p e → post 1) (h0 : ¬ gx_bs p e → post 0) :
    wpY_is post (ix_bf p, aA, aB, hv, fo, sp, pt) (nI e) := by
  refine br_f (nI_pos (by omega)) (br_f (nI_ge (b := 10) he (by decide)) (And.intro (vp_in_nI he (by decide)) ?_))
  rw [nI_clamp (by omega), ix_bf0]
  exact br_c h0 (fun z => h1 (Classical.byContradiction z))
theorem gx_fl_p (hp : p < 1024) : gx_fl (fun e => p.testBit e) 10 = p :=
  gx_bs_x (fun j => by
    rw [gx_fl_b]
    exact ⟨fun t => t.2, fun t => ⟨gx_lt10 hp t, t⟩⟩)
theorem py_ed4 {post : Int32 → Prop} {aA aB : Nat → Int32} (hp : p < 1024) (h : post (nI p)) :
    ∀ n i, i ≤ 10 → 10 - i < n → wY_edges_4 post (ix_bf p) aA aB hv fo sp pt n (nI (gx_fl (fun e => p.testBit e) i)) (nI i) := by
  intro n
  induction n with
  | zero => intro i _ h; exact absurd h (Nat.not_lt_zero _)
  | succ n ih =>
    intro i hi hn
    by_cases z : i = 10
    · subst z
      rw [gx_fl_p hp]
      exact br_t (nI_le (a := 10) (b := 10) (Nat.le_refl _) (by decide)) h
    · have hi10 : i < 10 := by omega
      have st : gx_fl (fun e => p.testBit e) (i + 1) = if p.testBit i = true then gx_fl (fun e => p.testBit e) i ||| 2 ^ i else gx_fl (fun e => p.testBit e) i := rfl
      have I := ih (i + 1) (by omega) (by omega)
      refine br_f (nI_ge (b := 10) hi10 (by decide)) (And.intro (vp_in_nI hi10 (by decide)) ?_)
      rw [nI_clamp (by omega), ix_bf0]
      refine br_c (fun y => nm_r (e' := nI (gx_fl (fun e => p.testBit e) (i + 1))) ?_ (nm_r (nI_1 i) I)) (fun y => nm_r (e' := nI (gx_fl (fun e => p.testBit e) (i + 1))) ?_ (nm_r (nI_1 i) I))
      · rw [ix_orZ, st, if_neg (show ¬ p.testBit i = true from y)]
      · rw [ix_set (by omega), st, if_pos (show p.testBit i = true from Classical.byContradiction y)]
        rfl
theorem py_ed {post : Int32 → Prop} {aA aB : Nat → Int32} (hp : p < 1024) (h : post (nI p)) : wpY_edges post (ix_bf p, aA, aB, hv, fo, sp, pt) :=
  Exists.intro 11 (py_ed4 hp h 11 0 (by omega) (by omega))
theorem py_j86 {post : Int32 → SY → Prop} {J : Int32 → Int32 → (Nat → Int32) → (Nat → Int32) → (Nat → Int32) → (Nat → Int32) → (Nat → Int32) → (Nat → Int32) → (Nat → Int32) → Prop} {x1 x2 : Int32} {aA aB : Nat → Int32} {q : Nat → Nat} {lo hi : Nat}
    (h6 : ∀ v, v < 6 → q v < 6) (hhi : hi < 6) (h : ∀ pt', px_P pt' (mx_mr q lo hi) → J x2 (nI (e + 1)) th aA aB hv fo sp pt') :
    ∀ n i, i ≤ 6 → 6 - i < n → ∀ pt : Nat → Int32, (∀ v, v < 6 → pt v = nI (if v < i then mx_mr q lo hi v else q v)) → wY_join_86 post J x1 x2 (nI e) (nI lo) (nI hi) n (nI i) th aA aB hv fo sp pt := by
  intro n
  induction n with
  | zero => intro i _ h; exact absurd h (Nat.not_lt_zero _)
  | succ n ih =>
    intro i hi' hn pt hpt
    by_cases z : i = 6
    · subst z
      exact br_t (nI_le (a := 6) (b := 6) (Nat.le_refl _) (by decide)) (nm_r (nI_1 e) (h pt (fun v hv => by rw [hpt v hv, if_pos hv])))
    · have hi6 : i < 6 := by omega
      have hin : vp_in (nI i) 6 := vp_in_nI hi6 (by decide)
      have hcl : (nI i).toNatClampNeg = i := nI_clamp (by omega)
      have hpi : pt i = nI (q i) := by rw [hpt i hi6, if_neg (Nat.lt_irrefl i)]
      refine br_f (nI_ge (b := 6) hi6 (by decide)) (And.intro hin ?_)
      rw [hcl, hpi, nI_eq (by have := h6 i hi6; omega) (by omega)]
      refine br_c (fun y => And.intro hin (nm_e (nm_r (nI_1 i) (ih (i + 1) (by omega) (by omega) _ (fun v hv => ?_))))) (fun y => And.intro hin (And.intro hin (nm_e (nm_r (nI_1 i) (ih (i + 1) (by omega) (by omega) _ (fun v hv => ?_))))))
      · by_cases t : v = i
        · subst t
          rw [pk_us, if_pos (Nat.lt_succ_self v)]
          unfold mx_mr
          rw [if_pos y]
        · rw [pk_un t, hpt v hv]
          by_cases u : v < i
          · rw [if_pos u, if_pos (by omega)]
          · rw [if_neg u, if_neg (by omega)]
      · by_cases t : v = i
        · subst t
          rw [pk_us, if_pos (Nat.lt_succ_self v)]
          unfold mx_mr
          rw [if_neg y]
        · rw [pk_un t, hpt v hv]
          by_cases u : v < i
          · rw [if_pos u, if_pos (by omega)]
          · rw [if_neg u, if_neg (by omega)]
theorem py_j25 {post : Int32 → SY → Prop} (hA : ∀ j, A j < 6) (hB : ∀ j, B j < 6) (hm : m < 1024)
    (h : ∀ pt' q, px_P pt' q → gx_lb A B (gx_bs m) q → (gx_fo A B (gx_bs m) → post 1 (th, ix_nf A, ix_nf B, hv, fo, sp, pt')) ∧ (¬ gx_fo A B (gx_bs m) → post 0 (th, ix_nf A, ix_nf B, hv, fo, sp, pt'))) :
    ∀ n i, i ≤ 10 → 10 - i < n → ∀ (pt : Nat → Int32) (q : Nat → Nat), px_P pt q → gx_lb A B (fun j => gx_bs m j ∧ j < i) q →
      (gx_fo A B (fun j => gx_bs m j ∧ j < i) → wY_join_25 post (nI m) n 1 (nI i) th (ix_nf A) (ix_nf B) hv fo sp pt) ∧
      (¬ gx_fo A B (fun j => gx_bs m j ∧ j < i) → wY_join_25 post (nI m) n 0 (nI i) th (ix_nf A) (ix_nf B) hv fo sp pt) := by
  intro n
  induction n with
  | zero => intro i _ h; exact absurd h (Nat.not_lt_zero _)
  | succ n ih =>
    intro i hi hn pt q hP hq
    by_cases z : i = 10
    · subst z
      have es : (fun j => gx_bs m j ∧ j < 10) = gx_bs m := funext (fun j => propext ⟨fun t => t.1, fun t => ⟨t, gx_lt10 hm t⟩⟩)
      rw [es] at hq ⊢
      have le : (10 : Int32) ≤ nI 10 := nI_le (a := 10) (b := 10) (Nat.le_refl _) (by decide)
      exact ⟨fun t => br_t le (And.intro rfl ((h pt q hP hq).1 t)), fun t => br_t le (And.intro rfl ((h pt q hP hq).2 t))⟩
    · have hi10 : i < 10 := by omega
      have nle : ¬ (10 : Int32) ≤ nI i := nI_ge (b := 10) hi10 (by decide)
      have hb1 : ((nI m >>> (nI i &&& 31)) &&& 1) = 1 ↔ gx_bs m i := ix_bit1 (by omega) (by omega)
      have hin : vp_in (nI i) 10 := vp_in_nI hi10 (by decide)
      by_cases y : gx_bs m i
      · have es : (fun j => gx_bs m j ∧ j < i + 1) = (fun j => (gx_bs m j ∧ j < i) ∨ j = i) := funext (fun j => propext (by
          constructor
          · intro t
            by_cases u : j = i
            · exact Or.inr u
            · exact Or.inl ⟨t.1, by omega⟩
          · intro t
            rcases t with t | t
            · exact ⟨t.1, by omega⟩
            · exact ⟨t ▸ y, by omega⟩))
        have cA : (ix_nf A i).toNatClampNeg = A i := nI_clamp (by have := hA i; omega)
        have cB : (ix_nf B i).toNatClampNeg = B i := nI_clamp (by have := hB i; omega)
        have iA : vp_in (ix_nf A i) 6 := vp_in_nI (hA i) (by decide)
        have iB : vp_in (ix_nf B i) 6 := vp_in_nI (hB i) (by decide)
        have q6 : ∀ v, v < 6 → q v < 6 := fun v hv => (hq v hv).1
        have qa := q6 _ (hA i)
        have qb := q6 _ (hB i)
        have pre : ∀ {P : Int32 → Int32 → Prop}, P (nI (q (A i))) (nI (q (B i))) →
            vp_in (nI i) 10 ∧ (vp_in (ix_nf A (nI i).toNatClampNeg) 6 ∧ (∀ x4_8 : Int32, x4_8 = pt (ix_nf A (nI i).toNatClampNeg).toNatClampNeg → (vp_in (nI i) 10 ∧ (vp_in (ix_nf B (nI i).toNatClampNeg) 6 ∧ (∀ x5_11 : Int32, x5_11 = pt (ix_nf B (nI i).toNatClampNeg).toNatClampNeg → P x4_8 x5_11))))) := by
          intro P hP'
          rw [nI_clamp (by omega)]
          exact ⟨hin, iA, nm_r (e' := nI (q (A i))) (by rw [cA]; exact hP _ (hA i)) ⟨hin, iB, nm_r (e' := nI (q (B i))) (by rw [cB]; exact hP _ (hB i)) hP'⟩⟩
        have start : ∀ v, v < 6 → pt v = nI (if v < 0 then mx_mr q (q (A i)) (q (B i)) v else q v) := fun v hv => by rw [if_neg (Nat.not_lt_zero v)]; exact hP v hv
        have nxt := fun pt' (hP' : px_P pt' (mx_mr q (q (A i)) (q (B i)))) => ih (i + 1) (by omega) (by omega) pt' _ hP' (by rw [es]; exact gx_lb_mr hq (hA i) (hB i) (Or.inl ⟨rfl, rfl⟩))
        have hcl : q (A i) = q (B i) ↔ gx_cl A B (fun j => gx_bs m j ∧ j < i) i := gx_lb_iff hq (hA i) (hB i)
        have hback : gx_fo A B (fun j => gx_bs m j ∧ j < i + 1) → gx_fo A B (fun j => gx_bs m j ∧ j < i) := fun t => gx_fo_sub t (fun j hj => ⟨hj.1, by omega⟩)
        refine ⟨fun t => br_f nle (br_t (hb1.mpr y) (pre (br_f (by decide) ?_))), fun t => br_f nle (br_t (hb1.mpr y) (pre (br_t rfl (Exists.intro 7 ?_))))⟩
        · rw [nI_eq (by omega) (by omega)]
          refine br_c (fun u => Exists.intro 7 (py_j86 q6 qb (fun pt' hP' => (nxt pt' hP').2 (fun f => ?_)) 7 0 (by omega) (by omega) pt start)) (fun u => Exists.intro 7 (py_j86 q6 qb (fun pt' hP' => (nxt pt' hP').1 ?_) 7 0 (by omega) (by omega) pt start))
          · exact f i ⟨y, by omega⟩ (gx_cmono (fun j hj => ⟨⟨hj.1, by omega⟩, by omega⟩) (hcl.mp u))
          · rw [es]
            exact gx_fo_add t (fun c => u (hcl.mpr c))
        · exact py_j86 q6 qb (fun pt' hP' => (nxt pt' hP').2 (fun f => t (hback f))) 7 0 (by omega) (by omega) pt start
      · have es : (fun j => gx_bs m j ∧ j < i + 1) = (fun j => gx_bs m j ∧ j < i) := funext (fun j => propext (by
          constructor
          · intro t
            have : j ≠ i := fun u => y (u ▸ t.1)
            exact ⟨t.1, by omega⟩
          · exact fun t => ⟨t.1, by omega⟩))
        have nxt := ih (i + 1) (by omega) (by omega) pt q hP (by rw [es]; exact hq)
        rw [es] at nxt
        exact ⟨fun t => br_f nle (br_f (fun u => y (hb1.mp u)) (nm_r (nI_1 i) (nxt.1 t))), fun t => br_f nle (br_f (fun u => y (hb1.mp u)) (nm_r (nI_1 i) (nxt.2 t)))⟩
theorem py_j4 {post : Int32 → SY → Prop} {aA aB : Nat → Int32} {x1 x2 : Int32} (h : ∀ pt', (∀ v, v < 6 → pt' v = nI v) → ∃ n, wY_join_25 post x1 n x2 0 th aA aB hv fo sp pt') :
    ∀ n i, i ≤ 6 → 6 - i < n → ∀ pt : Nat → Int32, (∀ v, v < i → pt v = nI v) → wY_join_4 post x1 x2 n (nI i) th aA aB hv fo sp pt := by
  intro n
  induction n with
  | zero => intro i _ h; exact absurd h (Nat.not_lt_zero _)
  | succ n ih =>
    intro i hi hn pt hpt
    by_cases z : i = 6
    · subst z
      exact br_t (nI_le (a := 6) (b := 6) (Nat.le_refl _) (by decide)) (h pt hpt)
    · have hi6 : i < 6 := by omega
      refine br_f (nI_ge (b := 6) hi6 (by decide)) (And.intro (vp_in_nI hi6 (by decide)) (nm_r (e' := upd pt i (nI i)) (by rw [nI_clamp (by omega)]) (nm_r (nI_1 i) (ih (i + 1) (by omega) (by omega) _ (fun v hv => ?_)))))
      by_cases y : v = i
      · subst y; exact pk_us
      · rw [pk_un y]; exact hpt v (by omega)
theorem py_join {post : Int32 → SY → Prop} (hA : ∀ j, A j < 6) (hB : ∀ j, B j < 6) (hm : m < 1024)
    (h : ∀ pt' q, px_P pt' q → gx_lb A B (gx_bs m) q → (gx_fo A B (gx_bs m) → post 1 (th, ix_nf A, ix_nf B, hv, fo, sp, pt')) ∧ (¬ gx_fo A B (gx_bs m) → post 0 (th, ix_nf A, ix_nf B, hv, fo, sp, pt'))) :
    wpY_join post (th, ix_nf A, ix_nf B, hv, fo, sp, pt) (nI m) :=
  Exists.intro 7 (py_j4 (fun pt' hpt => ⟨11, (py_j25 hA hB hm h 11 0 (by omega) (by omega) pt' (fun v => v) hpt (gx_lb_0 (fun j t => absurd t.2 (Nat.not_lt_zero _)) (fun _ _ => rfl))).1 (fun j t => absurd t.2 (Nat.not_lt_zero _))⟩) 7 0 (by omega) (by omega) pt (fun v hv => absurd hv (Nat.not_lt_zero _)))
end
end
section
/-! ===== walks of the reference: work ===== -/
noncomputable def ix_B (P : Prop) : Int32 := @ite Int32 P (Classical.propDecidable P) 1 0
theorem ix_B_t {P : Prop} (h : P) : ix_B P = 1 := @if_pos P (Classical.propDecidable P) h Int32 1 0
theorem ix_B_f {P : Prop} (h : ¬ P) : ix_B P = 0 := @if_neg P (Classical.propDecidable P) h Int32 1 0
theorem ix_B_c {P Q : Prop} (h : P ↔ Q) : ix_B P = ix_B Q := by rw [propext h]
theorem ix_B0 {P : Prop} : ix_B P = 0 ↔ ¬ P := by
  by_cases h : P
  · rw [ix_B_t h]; exact ⟨fun t => absurd t (by decide), fun t => absurd h t⟩
  · rw [ix_B_f h]; exact ⟨fun _ => h, fun _ => rfl⟩
theorem ix_B_n (P : Prop) : vp_nar .boolean (ix_B P) = ix_B P := by
  by_cases h : P
  · rw [ix_B_t h]; rfl
  · rw [ix_B_f h]; rfl
theorem ix_sub0 {m p : Nat} (hm : m < 1024) : (nI m &&& (nI p ^^^ (-1)) = 0) ↔ ∀ j, gx_bs m j → gx_bs p j := by
  have hlt : m &&& (1023 ^^^ p) < 2 ^ 31 := Nat.lt_of_le_of_lt Nat.and_le_left (by omega)
  rw [ix_not hm, show (0 : Int32) = nI 0 from rfl, nI_eq hlt (by decide)]
  have hb : ∀ j, (m &&& (1023 ^^^ p)).testBit j = (m.testBit j && !p.testBit j) := by
    intro j
    rw [Nat.testBit_and, Nat.testBit_xor, show (1023 : Nat) = 2 ^ 10 - 1 from rfl, Nat.testBit_two_pow_sub_one]
    by_cases z : j < 10
    · simp [z]
    · rw [gx_hi hm (by omega)]; simp
  constructor
  · intro h j hj
    have hj' : m.testBit j = true := hj
    have := hb j
    rw [h, Nat.zero_testBit, hj'] at this
    show p.testBit j = true
    cases hp : p.testBit j
    · rw [hp] at this; exact absurd this (by decide)
    · rfl
  · intro h
    apply Nat.eq_of_testBit_eq
    intro j
    rw [hb j, Nat.zero_testBit]
    cases hj : m.testBit j
    · rfl
    · have : p.testBit j = true := h j hj
      rw [this]; rfl
/-- the mask is a forest of p -/
def gx_F (A B : Nat → Nat) (p m : Nat) : Prop := (∀ j, gx_bs m j → gx_bs p j) ∧ gx_fo A B (gx_bs m)
theorem gx_F_sn {A B : Nat → Nat} {p m : Nat} (hp : p < 1024) : (gx_F A B p m ∧ ∀ j, j < 10 → gx_bs m j ∨ ¬ gx_F A B p (gx_in m j)) ↔ gx_sn A B (gx_bs p) (gx_bs m) := by
  constructor
  · intro h
    refine ⟨h.1.1, h.1.2, fun e he => ?_⟩
    by_cases z : gx_bs m e
    · exact gx_ed z
    · refine Classical.byContradiction (fun c => ?_)
      rcases h.2 e (gx_lt10 hp he) with t | t
      · exact z t
      · refine t ⟨fun j hj => ?_, ?_⟩
        · rw [gx_bs_in] at hj
          rcases hj with hj | hj
          · exact h.1.1 j hj
          · exact hj ▸ he
        · rw [gx_bs_in]
          exact gx_fo_add h.1.2 c
  · intro h
    refine ⟨⟨h.1, h.2.1⟩, fun j _ => ?_⟩
    by_cases z : gx_bs m j
    · exact Or.inl z
    · refine Or.inr (fun f => ?_)
      have f1 := f.1
      have f2 := f.2
      rw [gx_bs_in] at f1 f2
      exact f2 j (Or.inr rfl) (gx_cmono (fun i hi => ⟨Or.inl hi, fun t => z (t ▸ hi)⟩) (h.2.2 j (f1 j (Or.inr rfl))))
section
variable {p : Nat} {A B : Nat → Nat} {th hv : Nat → Int32} {m : Nat}
theorem py_w70 {post : SY → Prop} {J : Int32 → (Nat → Int32) → (Nat → Int32) → (Nat → Int32) → (Nat → Int32) → (Nat → Int32) → (Nat → Int32) → (Nat → Int32) → Prop} {aA aB fo sp0 pt : Nat → Int32}
    (hm : m < 1024) (hfo : ∀ i, i < 1024 → fo i = ix_B (gx_F A B p i))
    (h : ∀ sp', (∀ i, i ≠ m → sp' i = sp0 i) → sp' m = ix_B (gx_F A B p m ∧ ∀ j, j < 10 → gx_bs m j ∨ ¬ gx_F A B p (gx_in m j)) → J (nI (m + 1)) th aA aB hv fo sp' pt) :
    ∀ n e, e ≤ 10 → 10 - e < n → ∀ sp : Nat → Int32, (∀ i, i ≠ m → sp i = sp0 i) → sp m = ix_B (gx_F A B p m ∧ ∀ j, j < e → gx_bs m j ∨ ¬ gx_F A B p (gx_in m j)) →
      wY_work_70 post J (nI m) n (nI e) th aA aB hv fo sp pt := by
  intro n
  induction n with
  | zero => intro e _ h; exact absurd h (Nat.not_lt_zero _)
  | succ n ih =>
    intro e he hn sp hs0 hs
    by_cases z : e = 10
    · subst z
      exact br_t (nI_le (a := 10) (b := 10) (Nat.le_refl _) (by decide)) (nm_r (nI_1 m) (h sp hs0 hs))
    · have e10 : e < 10 := by omega
      have hcl : (nI m).toNatClampNeg = m := nI_clamp (by omega)
      have hin : vp_in (nI m) 1024 := vp_in_nI hm (by decide)
      have hb1 : ((nI m >>> (nI e &&& 31)) &&& 1) = 1 ↔ gx_bs m e := ix_bit1 (by omega) (by omega)
      have kp : ∀ x : Int32, ∀ i, i ≠ m → upd sp m x i = sp0 i := fun x i hi => by rw [pk_un hi]; exact hs0 i hi
      have I := ih (e + 1) (by omega) (by omega)
      refine br_f (nI_ge (b := 10) e10 (by decide)) (And.intro hin ?_)
      rw [hcl, hs, ix_B0]
      refine br_c (fun y => And.intro hin (nm_r (e' := upd sp m 0) rfl (nm_r (nI_1 e) (I _ (kp 0) ?_)))) (fun y => ?_)
      · rw [pk_us, ix_B_f (fun t => y ⟨t.1, fun j hj => t.2 j (by omega)⟩)]
      · have y' := Classical.byContradiction y
        refine br_c (fun u => And.intro hin (nm_r (e' := upd sp m 1) rfl (nm_r (nI_1 e) (I _ (kp 1) ?_)))) (fun u => ?_)
        · rw [pk_us, ix_B_t]
          refine ⟨y'.1, fun j hj => ?_⟩
          by_cases w : j = e
          · exact Or.inl (w ▸ hb1.mp u)
          · exact y'.2 j (by omega)
        · have hlt := gx_in_lt hm e10
          rw [ix_set (by omega)]
          refine And.intro (vp_in_nI hlt (by decide)) ?_
          rw [nI_clamp (by omega), hfo _ hlt, ix_B0]
          refine br_c (fun w => And.intro hin (nm_r (e' := upd sp m 1) rfl (nm_r (nI_1 e) (I _ (kp 1) ?_)))) (fun w => And.intro hin (nm_r (e' := upd sp m 0) rfl (nm_r (nI_1 e) (I _ (kp 0) ?_))))
          · rw [pk_us, ix_B_t]
            refine ⟨y'.1, fun j hj => ?_⟩
            by_cases v : j = e
            · exact Or.inr (v ▸ w)
            · exact y'.2 j (by omega)
          · rw [pk_us, ix_B_f]
            intro t
            rcases t.2 e (by omega) with v | v
            · exact u (hb1.mpr v)
            · exact w v
theorem py_w49 {post : SY → Prop} {aA aB fo pt : Nat → Int32} (hp : p < 1024) (hfo : ∀ i, i < 1024 → fo i = ix_B (gx_F A B p i))
    (h : ∀ sp', (∀ i, i < 1024 → sp' i = ix_B (gx_sn A B (gx_bs p) (gx_bs i))) → post (th, aA, aB, hv, fo, sp', pt)) :
    ∀ n m, m ≤ 1024 → 1024 - m < n → ∀ sp : Nat → Int32, (∀ i, i < m → sp i = ix_B (gx_sn A B (gx_bs p) (gx_bs i))) → wY_work_49 post n (nI m) th aA aB hv fo sp pt := by
  intro n
  induction n with
  | zero => intro m _ h; exact absurd h (Nat.not_lt_zero _)
  | succ n ih =>
    intro m hm hn sp hs
    by_cases z : m = 1024
    · subst z
      exact br_t (nI_le (a := 1024) (b := 1024) (Nat.le_refl _) (by decide)) (h sp hs)
    · have hm' : m < 1024 := by omega
      have hin : vp_in (nI m) 1024 := vp_in_nI hm' (by decide)
      refine br_f (nI_ge (b := 1024) hm' (by decide)) (And.intro hin (And.intro hin (nm_r (e' := upd sp m (ix_B (gx_F A B p m))) (by rw [nI_clamp (by omega), hfo m hm', ix_B_n]) (Exists.intro 11 ?_))))
      refine py_w70 (sp0 := sp) hm' hfo (fun sp' h1 h2 => ih (m + 1) (by omega) (by omega) sp' (fun i hi => ?_)) 11 0 (by omega) (by omega) _ (fun i hi => pk_un hi) ?_
      · by_cases w : i = m
        · rw [w, h2]
          exact ix_B_c (gx_F_sn hp)
        · rw [h1 i w]
          exact hs i (by omega)
      · rw [pk_us]
        exact ix_B_c ⟨fun t => ⟨t, fun j hj => absurd hj (Nat.not_lt_zero _)⟩, fun t => t.1⟩
theorem py_w7 {post : SY → Prop} {sp : Nat → Int32} (hA : ∀ j, A j < 6) (hB : ∀ j, B j < 6)
    (h : ∀ fo' pt', (∀ i, i < 1024 → fo' i = ix_B (gx_F A B p i)) → ∃ n, wY_work_49 post n 0 th (ix_nf A) (ix_nf B) hv fo' sp pt') :
    ∀ n m, m ≤ 1024 → 1024 - m < n → ∀ fo pt : Nat → Int32, (∀ i, i < m → fo i = ix_B (gx_F A B p i)) → wY_work_7 post (nI p) n (nI m) th (ix_nf A) (ix_nf B) hv fo sp pt := by
  intro n
  induction n with
  | zero => intro m _ h; exact absurd h (Nat.not_lt_zero _)
  | succ n ih =>
    intro m hm hn fo pt hs
    by_cases z : m = 1024
    · subst z
      exact br_t (nI_le (a := 1024) (b := 1024) (Nat.le_refl _) (by decide)) (h fo pt hs)
    · have hm' : m < 1024 := by omega
      have hcl : (nI m).toNatClampNeg = m := nI_clamp (by omega)
      have hin : vp_in (nI m) 1024 := vp_in_nI hm' (by decide)
      have I := ih (m + 1) (by omega) (by omega)
      have put : ∀ x : Int32, x = ix_B (gx_F A B p m) → ∀ i, i < m + 1 → upd fo m x i = ix_B (gx_F A B p i) := by
        intro x hx i hi
        by_cases w : i = m
        · rw [w, pk_us, hx]
        · rw [pk_un w]; exact hs i (by omega)
      refine br_f (nI_ge (b := 1024) hm' (by decide)) (br_c (fun y => ?_) (fun y => ?_))
      · have y' := (ix_sub0 hm').mp y
        refine py_join hA hB hm' (fun pt' q _ _ => ⟨fun f => br_f (by decide) (And.intro hin (nm_r (e' := upd fo m 1) (by rw [hcl]; rfl) (nm_r (nI_1 m) (I _ pt' (put 1 ?_))))), fun f => br_t rfl (And.intro hin (nm_r (e' := upd fo m 0) (by rw [hcl]; rfl) (nm_r (nI_1 m) (I _ pt' (put 0 ?_)))))⟩)
        · rw [ix_B_t ⟨y', f⟩]
        · rw [ix_B_f (fun t => f t.2)]
      · refine And.intro hin (nm_r (e' := upd fo m 0) (by rw [hcl]; rfl) (nm_r (nI_1 m) (I _ pt (put 0 ?_))))
        rw [ix_B_f (fun t => y ((ix_sub0 hm').mpr t.1))]
/-- after work: spans holds which sets are spanning forests -/
theorem py_work {post : SY → Prop} {fo sp pt : Nat → Int32} (hA : ∀ j, A j < 6) (hB : ∀ j, B j < 6) (hp : p < 1024)
    (h : ∀ fo' sp' pt', (∀ i, i < 1024 → sp' i = ix_B (gx_sn A B (gx_bs p) (gx_bs i))) → post (ix_bf p, ix_nf A, ix_nf B, hv, fo', sp', pt')) :
    wpY_work post (ix_bf p, ix_nf A, ix_nf B, hv, fo, sp, pt) := by
  unfold wpY_work
  refine py_ed hp (Exists.intro 1025 ?_)
  refine py_w7 hA hB (fun fo' pt' hfo => ⟨1025, py_w49 hp hfo (fun sp' hsp => h fo' sp' pt' hsp) 1025 0 (by omega) (by omega) sp (fun i hi => absurd hi (Nat.not_lt_zero _))⟩) 1025 0 (by omega) (by omega) fo pt (fun i hi => absurd hi (Nat.not_lt_zero _))
end
end
section
/-! ===== walks of the reference: sum, before, best, needed ===== -/
theorem gx_wt_le {w : Nat → Nat} (hw : ∀ j, w j < 51) (m : Nat) : gx_wt w m ≤ 500 := by
  have h : gx_wt w m ≤ gx_sm (fun _ => 50) 10 := gx_sm_le 10 (fun j _ => by
    show (if m.testBit j = true then w j else 0) ≤ 50
    have := hw j
    split <;> omega)
  exact h
/-- the first edge that differs decides -/
theorem gx_lexi {a b e : Nat} (he : e < 10) (hs : ∀ j, j < e → (gx_bs a j ↔ gx_bs b j)) (ha : gx_bs a e) (hb : ¬ gx_bs b e) :
    gx_wt (fun e => 2 ^ (9 - e)) b < gx_wt (fun e => 2 ^ (9 - e)) a := by
  have hf : ∃ f : Nat → Nat, ∀ j, f j = if a.testBit j = true then 2 ^ (9 - j) else 0 := ⟨_, fun _ => rfl⟩
  have hg : ∃ g : Nat → Nat, ∀ j, g j = if b.testBit j = true then 2 ^ (9 - j) else 0 := ⟨_, fun _ => rfl⟩
  obtain ⟨f, hf⟩ := hf
  obtain ⟨g, hg⟩ := hg
  have key : ∀ d, e + 1 + d ≤ 10 → gx_sm g (e + 1 + d) + 2 ^ (10 - (e + 1 + d)) ≤ gx_sm f (e + 1 + d) := by
    intro d
    induction d with
    | zero =>
      intro _
      have e1 : gx_sm f e = gx_sm g e := gx_sm_c e (fun j hj => by
        have := hs j hj
        unfold gx_bs at this
        rw [hf, hg]
        by_cases y : a.testBit j = true
        · rw [if_pos y, if_pos (this.mp y)]
        · rw [if_neg y, if_neg (fun t => y (this.mpr t))])
      show gx_sm g e + g e + 2 ^ (10 - (e + 1)) ≤ gx_sm f e + f e
      rw [hf e, hg e, if_pos (show a.testBit e = true from ha), if_neg (show ¬ b.testBit e = true from hb), e1, show 10 - (e + 1) = 9 - e from by omega]
      omega
    | succ d ih =>
      intro hd
      have h1 := ih (by omega)
      show gx_sm g (e + 1 + d) + g (e + 1 + d) + 2 ^ (10 - (e + 1 + d + 1)) ≤ gx_sm f (e + 1 + d) + f (e + 1 + d)
      have h2 : g (e + 1 + d) ≤ 2 ^ (9 - (e + 1 + d)) := by
        rw [hg]
        split
        · exact Nat.le_refl _
        · exact Nat.zero_le _
      have h3 : 10 - (e + 1 + d) = (9 - (e + 1 + d)) + 1 := by omega
      have h4 : 10 - (e + 1 + d + 1) = 9 - (e + 1 + d) := by omega
      rw [h3, Nat.pow_succ] at h1
      rw [h4]
      generalize 2 ^ (9 - (e + 1 + d)) = z at *
      omega
  have h := key (9 - e) (by omega)
  rw [show e + 1 + (9 - e) = 10 from by omega] at h
  have ef : gx_sm f 10 = gx_wt (fun e => 2 ^ (9 - e)) a := gx_sm_c 10 (fun j _ => hf j)
  have eg : gx_sm g 10 = gx_wt (fun e => 2 ^ (9 - e)) b := gx_sm_c 10 (fun j _ => hg j)
  rw [ef, eg] at h
  omega
section
variable {W : Nat → Nat} {th aA aB fo sp pt : Nat → Int32} {m a b : Nat}
theorem py_sum4 {post : Int32 → Prop} (hm : m < 1024) (h : post (nI (gx_wt W m))) :
    ∀ n i, i ≤ 10 → 10 - i < n → wY_sum_4 post (nI m) th aA aB (ix_nf W) fo sp pt n (nI (gx_sm (fun e => if m.testBit e = true then W e else 0) i)) (nI i) := by
  intro n
  induction n with
  | zero => intro i _ h; exact absurd h (Nat.not_lt_zero _)
  | succ n ih =>
    intro i hi hn
    by_cases z : i = 10
    · subst z
      exact br_t (nI_le (a := 10) (b := 10) (Nat.le_refl _) (by decide)) h
    · have hi10 : i < 10 := by omega
      have hb1 : ((nI m >>> (nI i &&& 31)) &&& 1) = 1 ↔ gx_bs m i := ix_bit1 (by omega) (by omega)
      have st : gx_sm (fun e => if m.testBit e = true then W e else 0) (i + 1) = gx_sm (fun e => if m.testBit e = true then W e else 0) i + (if m.testBit i = true then W i else 0) := rfl
      have I := ih (i + 1) (by omega) (by omega)
      refine br_f (nI_ge (b := 10) hi10 (by decide)) (br_c (fun y => And.intro (vp_in_nI hi10 (by decide)) (nm_r (e' := nI (gx_sm (fun e => if m.testBit e = true then W e else 0) (i + 1))) ?_ (nm_r (nI_1 i) I))) (fun y => nm_r (e' := nI (gx_sm (fun e => if m.testBit e = true then W e else 0) (i + 1))) ?_ (nm_r (nI_1 i) I)))
      · rw [nI_clamp (by omega), st, if_pos (show m.testBit i = true from hb1.mp y), ← nI_add]
        rfl
      · rw [st, if_neg (show ¬ m.testBit i = true from fun t => y (hb1.mpr t)), Nat.add_zero, Int32.add_zero]
theorem py_sum {post : Int32 → Prop} (hm : m < 1024) (h : post (nI (gx_wt W m))) : wpY_sum post (th, aA, aB, ix_nf W, fo, sp, pt) (nI m) :=
  Exists.intro 11 (py_sum4 hm h 11 0 (by omega) (by omega))
theorem py_bf34 {post : Int32 → Prop} {hv : Nat → Int32} (ha : a < 1024) (hb : b < 1024)
    (h1 : gx_wt (fun e => 2 ^ (9 - e)) b < gx_wt (fun e => 2 ^ (9 - e)) a → post 1) (h0 : ¬ gx_wt (fun e => 2 ^ (9 - e)) b < gx_wt (fun e => 2 ^ (9 - e)) a → post 0) :
    ∀ n i, i ≤ 10 → 10 - i < n → (∀ j, j < i → (gx_bs a j ↔ gx_bs b j)) → wY_before_34 post (nI a) (nI b) th aA aB hv fo sp pt n (nI i) := by
  intro n
  induction n with
  | zero => intro i _ h; exact absurd h (Nat.not_lt_zero _)
  | succ n ih =>
    intro i hi hn hs
    by_cases z : i = 10
    · subst z
      have e : a = b := gx_ext ha hb hs
      exact br_t (nI_le (a := 10) (b := 10) (Nat.le_refl _) (by decide)) (h0 (by rw [e]; exact Nat.lt_irrefl _))
    · have hi10 : i < 10 := by omega
      have ba : ((nI a >>> (nI i &&& 31)) &&& 1) = nI (if a.testBit i = true then 1 else 0) := ix_bit (by omega) (by omega)
      have bb : ((nI b >>> (nI i &&& 31)) &&& 1) = nI (if b.testBit i = true then 1 else 0) := ix_bit (by omega) (by omega)
      have I := ih (i + 1) (by omega) (by omega)
      refine br_f (nI_ge (b := 10) hi10 (by decide)) ?_
      rw [ba, bb]
      by_cases ya : a.testBit i = true
      · by_cases yb : b.testBit i = true
        · rw [if_pos ya, if_pos yb]
          refine br_t rfl (nm_r (nI_1 i) (I (fun j hj => ?_)))
          by_cases t : j = i
          · rw [t]; exact ⟨fun _ => yb, fun _ => ya⟩
          · exact hs j (by omega)
        · rw [if_pos ya, if_neg yb]
          exact br_f (by decide) (br_t rfl (h1 (gx_lexi hi10 hs ya yb)))
      · by_cases yb : b.testBit i = true
        · rw [if_neg ya, if_pos yb]
          refine br_f (by decide) (br_f (by decide) (h0 ?_))
          have := gx_lexi hi10 (fun j hj => (hs j hj).symm) yb ya
          omega
        · rw [if_neg ya, if_neg yb]
          refine br_t rfl (nm_r (nI_1 i) (I (fun j hj => ?_)))
          by_cases t : j = i
          · rw [t]; exact ⟨fun u => absurd u ya, fun u => absurd u yb⟩
          · exact hs j (by omega)
theorem py_before {post : Int32 → Prop} (hW : ∀ j, W j < 51) (ha : a < 1024) (hb : b < 1024) (h1 : gx_ky W a < gx_ky W b → post 1) (h0 : ¬ gx_ky W a < gx_ky W b → post 0) :
    wpY_before post (th, aA, aB, ix_nf W, fo, sp, pt) (nI a) (nI b) := by
  have wa := gx_wt_le hW a
  have wb := gx_wt_le hW b
  have ra := gx_rev a
  have rb := gx_rev b
  unfold gx_ky at h1 h0
  unfold wpY_before
  refine py_sum ha (py_sum hb ?_)
  rw [nI_eq (by omega) (by omega), nI_leI (by omega) (by omega)]
  refine br_c (fun y => Exists.intro 11 (py_bf34 ha hb (fun t => h1 (by omega)) (fun t => h0 (by omega)) 11 0 (by omega) (by omega) (fun j hj => absurd hj (Nat.not_lt_zero _)))) (fun y => br_c (fun t => h0 (by omega)) (fun t => h1 (by omega)))
/-- the first of the sets with property C -/
theorem py_best4 {post : Int32 → Prop} {x1 : Int32} {Q : Nat → Prop} (hW : ∀ j, W j < 51) (hsp : ∀ i, i < 1024 → sp i = ix_B (Q i))
    (h0 : (∀ m, m < 1024 → ¬ (Q m ∧ nI m ≠ x1)) → post (-1))
    (h1 : ∀ m, m < 1024 → (Q m ∧ nI m ≠ x1) → (∀ m', m' < 1024 → (Q m' ∧ nI m' ≠ x1) → gx_ky W m ≤ gx_ky W m') → post (nI m)) :
    ∀ n i, i ≤ 1024 → 1024 - i < n →
      ((∀ m, m < i → ¬ (Q m ∧ nI m ≠ x1)) → wY_best_4 post x1 th aA aB (ix_nf W) fo sp pt n (-1) (nI i)) ∧
      (∀ b, b < i → (Q b ∧ nI b ≠ x1) → (∀ m', m' < i → (Q m' ∧ nI m' ≠ x1) → gx_ky W b ≤ gx_ky W m') → wY_best_4 post x1 th aA aB (ix_nf W) fo sp pt n (nI b) (nI i)) := by
  intro n
  induction n with
  | zero => intro i _ h; exact absurd h (Nat.not_lt_zero _)
  | succ n ih =>
    intro i hi hn
    by_cases z : i = 1024
    · subst z
      have le : (1024 : Int32) ≤ nI 1024 := nI_le (a := 1024) (b := 1024) (Nat.le_refl _) (by decide)
      exact ⟨fun t => br_t le (h0 t), fun b hb c t => br_t le (h1 b hb c t)⟩
    · have hi' : i < 1024 := by omega
      have nle : ¬ (1024 : Int32) ≤ nI i := nI_ge (b := 1024) hi' (by decide)
      have hin : vp_in (nI i) 1024 := vp_in_nI hi' (by decide)
      have hsi : sp (nI i).toNatClampNeg = 0 ↔ ¬ Q i := by rw [nI_clamp (by omega), hsp i hi', ix_B0]
      obtain ⟨ihA, ihB⟩ := ih (i + 1) (by omega) (by omega)
      have sk1 : ¬ (Q i ∧ nI i ≠ x1) → (∀ m, m < i → ¬ (Q m ∧ nI m ≠ x1)) → ∀ m, m < i + 1 → ¬ (Q m ∧ nI m ≠ x1) := by
        intro c t m hm
        by_cases u : m = i
        · rw [u]; exact c
        · exact t m (by omega)
      have sk2 : ∀ b, (¬ (Q i ∧ nI i ≠ x1) ∨ gx_ky W b ≤ gx_ky W i) → (∀ m', m' < i → (Q m' ∧ nI m' ≠ x1) → gx_ky W b ≤ gx_ky W m') → ∀ m', m' < i + 1 → (Q m' ∧ nI m' ≠ x1) → gx_ky W b ≤ gx_ky W m' := by
        intro b c t m' hm hc
        by_cases u : m' = i
        · rw [u] at hc ⊢
          exact c.elim (fun c => absurd hc c) id
        · exact t m' (by omega) hc
      refine ⟨fun t => br_f nle (And.intro hin (br_c (fun y => nm_r (nI_1 i) (ihA (sk1 (fun c => (hsi.mp y) c.1) t))) (fun y => br_c (fun u => nm_r (nI_1 i) (ihA (sk1 (fun c => c.2 u) t))) (fun u => br_t ix_m1 (nm_r (nI_1 i) (ihB i (by omega) ⟨?_, u⟩ ?_)))))), fun b hb hc t => br_f nle (And.intro hin (br_c (fun y => nm_r (nI_1 i) (ihB b (by omega) hc (sk2 b (Or.inl (fun c => (hsi.mp y) c.1)) t))) (fun y => br_c (fun u => nm_r (nI_1 i) (ihB b (by omega) hc (sk2 b (Or.inl (fun c => c.2 u)) t))) (fun u => br_f (nI_pos (by omega)) ?_))))⟩
      · exact Classical.byContradiction (fun c => y (hsi.mpr c))
      · exact sk2 i (Or.inr (Nat.le_refl _)) (fun m' hm' hc' => absurd hc' (t m' hm'))
      · have hQ : Q i := Classical.byContradiction (fun c => y (hsi.mpr c))
        refine py_before hW hi' (by omega) (fun k => br_f (by decide) (nm_r (nI_1 i) (ihB i (by omega) ⟨hQ, u⟩ (sk2 i (Or.inr (Nat.le_refl _)) (fun m' hm' hc' => ?_))))) (fun k => br_t rfl (nm_r (nI_1 i) (ihB b (by omega) hc (sk2 b (Or.inr ?_) t))))
        · have := t m' hm' hc'
          omega
        · omega
theorem py_best {post : Int32 → Prop} {x1 : Int32} {Q : Nat → Prop} (hW : ∀ j, W j < 51) (hsp : ∀ i, i < 1024 → sp i = ix_B (Q i))
    (h0 : (∀ m, m < 1024 → ¬ (Q m ∧ nI m ≠ x1)) → post (-1))
    (h1 : ∀ m, m < 1024 → (Q m ∧ nI m ≠ x1) → (∀ m', m' < 1024 → (Q m' ∧ nI m' ≠ x1) → gx_ky W m ≤ gx_ky W m') → post (nI m)) :
    wpY_best post (th, aA, aB, ix_nf W, fo, sp, pt) x1 :=
  Exists.intro 1025 ((py_best4 hW hsp h0 h1 1025 0 (by omega) (by omega)).1 (fun m hm => absurd hm (Nat.not_lt_zero _)))
theorem py_need4 {post : Int32 → Prop} {hv : Nat → Int32} {Q : Nat → Prop} {e : Nat} (he : e < 10) (hsp : ∀ i, i < 1024 → sp i = ix_B (Q i))
    (h1 : (∀ m, m < 1024 → Q m → gx_bs m e) → post 1) (h0 : (¬ ∀ m, m < 1024 → Q m → gx_bs m e) → post 0) :
    ∀ n i, i ≤ 1024 → 1024 - i < n →
      ((∀ m, m < i → Q m → gx_bs m e) → wY_needed_4 post (nI e) th aA aB hv fo sp pt n 1 (nI i)) ∧
      ((¬ ∀ m, m < i → Q m → gx_bs m e) → wY_needed_4 post (nI e) th aA aB hv fo sp pt n 0 (nI i)) := by
  intro n
  induction n with
  | zero => intro i _ h; exact absurd h (Nat.not_lt_zero _)
  | succ n ih =>
    intro i hi hn
    by_cases z : i = 1024
    · subst z
      have le : (1024 : Int32) ≤ nI 1024 := nI_le (a := 1024) (b := 1024) (Nat.le_refl _) (by decide)
      exact ⟨fun t => br_t le (And.intro rfl (h1 t)), fun t => br_t le (And.intro rfl (h0 t))⟩
    · have hi' : i < 1024 := by omega
      have nle : ¬ (1024 : Int32) ≤ nI i := nI_ge (b := 1024) hi' (by decide)
      have hin : vp_in (nI i) 1024 := vp_in_nI hi' (by decide)
      have hsi : sp (nI i).toNatClampNeg = 0 ↔ ¬ Q i := by rw [nI_clamp (by omega), hsp i hi', ix_B0]
      have hb1 : ((nI i >>> (nI e &&& 31)) &&& 1) = 1 ↔ gx_bs i e := ix_bit1 (by omega) (by omega)
      obtain ⟨ihA, ihB⟩ := ih (i + 1) (by omega) (by omega)
      have sk : (Q i → gx_bs i e) → (∀ m, m < i → Q m → gx_bs m e) → ∀ m, m < i + 1 → Q m → gx_bs m e := by
        intro c t m hm
        by_cases u : m = i
        · rw [u]; exact c
        · exact t m (by omega)
      refine ⟨fun t => br_f nle (br_f (by decide) (And.intro hin (br_c (fun y => nm_r (nI_1 i) (ihA (sk (fun c => absurd c (hsi.mp y)) t))) (fun y => br_c (fun u => nm_r (nI_1 i) (ihA (sk (fun _ => hb1.mp u) t))) (fun u => nm_r (nI_1 i) (ihB (fun t' => ?_))))))), fun t => br_f nle (br_t rfl (nm_r (nI_1 i) (ihB (fun t' => t (fun m hm => t' m (by omega))))))⟩
      exact u (hb1.mpr (t' i (by omega) (Classical.byContradiction (fun c => y (hsi.mpr c)))))
theorem py_need {post : Int32 → Prop} {hv : Nat → Int32} {Q : Nat → Prop} {e : Nat} (he : e < 10) (hsp : ∀ i, i < 1024 → sp i = ix_B (Q i))
    (h1 : (∀ m, m < 1024 → Q m → gx_bs m e) → post 1) (h0 : (¬ ∀ m, m < 1024 → Q m → gx_bs m e) → post 0) :
    wpY_needed post (th, aA, aB, hv, fo, sp, pt) (nI e) :=
  Exists.intro 1025 ((py_need4 he hsp h1 h0 1025 0 (by omega) (by omega)).1 (fun m hm => absurd hm (Nat.not_lt_zero _)))
end
end
section
/-! ===== the relation; edges are put in, taken out, weighed ===== -/
/-- both hold the edges of the mask p with ends A, B and weights W -/
def i_Rel (k : Nat) (u : SX) (v : SY) : Prop :=
  ∃ (p : Nat) (A B W : Nat → Nat) (lt : Int32) (pt : Nat → Int32) (mt : Nat → Int64) (fo sp pt2 : Nat → Int32),
    u = (nI p, lt, ix_nf A, ix_nf B, ix_nf W, pt, mt) ∧ v = (ix_bf p, ix_nf A, ix_nf B, ix_nf W, fo, sp, pt2) ∧
    p < 1024 ∧ (∀ j, A j < 6) ∧ (∀ j, B j < 6) ∧ (∀ j, W j < 51) ∧ (∀ j, gx_bs p j → A j ≠ B j)
theorem i_up {k : Nat} {u : SX} {v : SY} (h : i_Rel k u v) : i_Rel (k + 4) u v := h
section
variable {k p : Nat} {A B W : Nat → Nat} {lt : Int32} {pt : Nat → Int32} {mt : Nat → Int64} {fo sp pt2 : Nat → Int32}
theorem px_rel (hp : p < 1024) (hA : ∀ j, A j < 6) (hB : ∀ j, B j < 6) (hW : ∀ j, W j < 51) (hn : ∀ j, gx_bs p j → A j ≠ B j) :
    i_Rel k (nI p, lt, ix_nf A, ix_nf B, ix_nf W, pt, mt) (ix_bf p, ix_nf A, ix_nf B, ix_nf W, fo, sp, pt2) :=
  ⟨p, A, B, W, lt, pt, mt, fo, sp, pt2, rfl, rfl, hp, hA, hB, hW, hn⟩
theorem ix_ge0 {n : Nat} {x : Int32} (h : nI n ≤ x) (hn : n < 2 ^ 31) : ¬ x < 0 := Int32.not_lt.mpr (Int32.le_trans (nI_pos' hn) h)
theorem px_hasN {post : Int32 → Prop} {fp : Int32} {aA aB aW : Nat → Int32} {x : Int32} (hx : x < 0 ∨ nI 10 ≤ x) (h : post 0) : wpX_has post (fp, lt, aA, aB, aW, pt, mt) x := by
  rcases hx with hx | hx
  · exact br_t hx h
  · exact br_f (ix_ge0 hx (by decide)) (br_t hx h)
theorem py_isN {post : Int32 → Prop} {th aA aB hv : Nat → Int32} {x : Int32} (hx : x < 0 ∨ nI 10 ≤ x) (h : post 0) : wpY_is post (th, aA, aB, hv, fo, sp, pt) x := by
  rcases hx with hx | hx
  · exact br_t hx h
  · exact br_f (ix_ge0 hx (by decide)) (br_t hx h)
theorem px_vx {post : Int32 → Prop} {x : Int32} (h1 : ∀ a, a < 6 → x = nI a → post 1) (h0 : (x < 0 ∨ nI 6 ≤ x) → post 0) : wpX_isVertex post x := by
  rcases pk_ix x (n := 6) (by decide) with hx | hx | ⟨a, ha, hx⟩
  · exact br_t hx (h0 (Or.inl hx))
  · exact br_f (ix_ge0 hx (by decide)) (br_t hx (h0 (Or.inr hx)))
  · subst hx
    exact br_f (nI_pos (by omega)) (br_f (nI_ge (b := 6) ha (by decide)) (h1 a ha rfl))
theorem py_vxN {post : Int32 → Prop} {th aA aB hv : Nat → Int32} {x : Int32} (hx : x < 0 ∨ nI 6 ≤ x) (h : post 0) : wpY_vertex post (th, aA, aB, hv, fo, sp, pt) x := by
  rcases hx with hx | hx
  · exact br_t hx h
  · exact br_f (ix_ge0 hx (by decide)) (br_t hx h)
theorem py_vx {post : Int32 → Prop} {th aA aB hv : Nat → Int32} {a : Nat} (ha : a < 6) (h : post 1) : wpY_vertex post (th, aA, aB, hv, fo, sp, pt) (nI a) :=
  br_f (nI_pos (by omega)) (br_f (nI_ge (b := 6) ha (by decide)) h)
theorem px_add34 {post : Int32 → SX → Prop} {a b w : Nat} (hp : p < 1024) (ha : a < 6) (hb : b < 6) (hw : w < 51)
    (h1 : ∀ e, e < 10 → ¬ gx_bs p e → (∀ j, j < e → gx_bs p j) → post (nI e) (nI (gx_in p e), lt, ix_nf (ix_up A e a), ix_nf (ix_up B e b), ix_nf (ix_up W e w), pt, mt))
    (h2 : (∀ j, j < 10 → gx_bs p j) → post (-2) (nI p, lt, ix_nf A, ix_nf B, ix_nf W, pt, mt)) :
    ∀ n i, i ≤ 10 → 10 - i < n → (∀ j, j < i → gx_bs p j) → wX_add_34 post (nI a) (nI b) (nI w) (nI p) lt (ix_nf A) (ix_nf B) (ix_nf W) pt mt n (nI i) := by
  intro n
  induction n with
  | zero => intro i _ h; exact absurd h (Nat.not_lt_zero _)
  | succ n ih =>
    intro i hi hn hs
    by_cases z : i = 10
    · subst z
      exact br_t (nI_le (a := 10) (b := 10) (Nat.le_refl _) (by decide)) (h2 hs)
    · have hi10 : i < 10 := by omega
      have hin : vp_in (nI i) 10 := vp_in_nI hi10 (by decide)
      have hcl : (nI i).toNatClampNeg = i := nI_clamp (by omega)
      refine br_f (nI_ge (b := 10) hi10 (by decide)) (px_has hp hi10 (fun y => br_f (by decide) (nm_r (nI_1 i) (ih (i + 1) (by omega) (by omega) (fun j hj => ?_)))) (fun y => br_t rfl (nm_r (ix_set (by omega)) (And.intro hin (nm_r (e' := ix_nf (ix_up A i a)) ?_ (And.intro hin (nm_r (e' := ix_nf (ix_up B i b)) ?_ (And.intro hin (nm_r (e' := ix_nf (ix_up W i w)) ?_ (h1 i hi10 y hs))))))))))
      · by_cases t : j = i
        · exact t ▸ y
        · exact hs j (by omega)
      · rw [hcl, ix_byte (by omega), ix_upd]
      · rw [hcl, ix_byte (by omega), ix_upd]
      · rw [hcl, ix_byte (by omega), ix_upd]
theorem py_add36 {post : Int32 → SY → Prop} {a b w : Nat}
    (h1 : ∀ e, e < 10 → ¬ gx_bs p e → (∀ j, j < e → gx_bs p j) → post (nI e) (ix_bf (gx_in p e), ix_nf (ix_up A e a), ix_nf (ix_up B e b), ix_nf (ix_up W e w), fo, sp, pt))
    (h2 : (∀ j, j < 10 → gx_bs p j) → post (-2) (ix_bf p, ix_nf A, ix_nf B, ix_nf W, fo, sp, pt)) :
    ∀ n i, i ≤ 10 → 10 - i < n → (∀ j, j < i → gx_bs p j) → wY_add_36 post (nI a) (nI b) (nI w) (ix_bf p) (ix_nf A) (ix_nf B) (ix_nf W) fo sp pt n (nI i) := by
  intro n
  induction n with
  | zero => intro i _ h; exact absurd h (Nat.not_lt_zero _)
  | succ n ih =>
    intro i hi hn hs
    by_cases z : i = 10
    · subst z
      exact br_t (nI_le (a := 10) (b := 10) (Nat.le_refl _) (by decide)) (h2 hs)
    · have hi10 : i < 10 := by omega
      have hin : vp_in (nI i) 10 := vp_in_nI hi10 (by decide)
      have hcl : (nI i).toNatClampNeg = i := nI_clamp (by omega)
      refine br_f (nI_ge (b := 10) hi10 (by decide)) (And.intro hin ?_)
      rw [hcl, ix_bf0]
      refine br_c (fun y => And.intro hin (nm_r (e' := ix_bf (gx_in p i)) (by rw [← ix_bf_in]; rfl) (And.intro hin (nm_r (ix_upd _ _ _) (And.intro hin (nm_r (ix_upd _ _ _) (And.intro hin (nm_r (ix_upd _ _ _) (h1 i hi10 y hs))))))))) (fun y => nm_r (nI_1 i) (ih (i + 1) (by omega) (by omega) (fun j hj => ?_)))
      by_cases t : j = i
      · exact t ▸ Classical.byContradiction y
      · exact hs j (by omega)
end
theorem i_vc0 : wpX_init (fun u => wpY_init (fun v => i_Rel 0 u v)) := by
  refine ⟨0, fun _ => 0, fun _ => 0, fun _ => 0, 0, fun _ => 0, fun _ => 0, fun _ => 0, fun _ => 0, fun _ => 0, rfl, ?_, by decide, fun _ => (by decide : 0 < 6), fun _ => (by decide : 0 < 6), fun _ => (by decide : 0 < 51), fun j h => absurd h (gx_bs0 j)⟩
  have e : ix_bf 0 = fun _ => 0 := by
    funext j
    exact ix_bf0.mpr (gx_bs0 j)
  rw [e]
  rfl
theorem i_vc_add {k : Nat} {u : SX} {v : SY} (I : i_Rel k u v) (hk : k + 4 ≤ 2048) (v1 : Int32) (v2 : Int32) (v3 : Int32) : wpX_add (fun r u' => wpY_add (fun r' v' => r' = r ∧ i_Rel (k + 4) u' v') v v1 v2 v3) u v1 v2 v3 := by
  obtain ⟨p, A, B, W, lt, pt, mt, fo, sp, pt2, rfl, rfl, hp, hA, hB, hW, hn⟩ := I
  by_cases h12 : v1 = v2
  · exact br_t h12 (br_t h12 ⟨rfl, px_rel hp hA hB hW hn⟩)
  · refine br_f h12 (px_vx (fun a ha ea => br_f (by decide) (px_vx (fun b hb eb => br_f (by decide) ?_) (fun hx => br_t rfl ?_))) (fun hx => br_t rfl ?_))
    · subst ea eb
      by_cases h3 : v3 < 0
      · exact br_t h3 (br_f h12 (py_vx ha (br_f (by decide) (py_vx hb (br_f (by decide) (br_t h3 ⟨rfl, px_rel hp hA hB hW hn⟩))))))
      · by_cases h50 : v3 ≤ 50
        · obtain ⟨w, hw, rfl⟩ := nI_of2 (M := 50) (n := 50) (by decide) h3 h50
          have hab : a ≠ b := fun t => h12 (by rw [t])
          refine br_f h3 (br_t h50 (Exists.intro 11 (px_add34 hp ha hb (by omega) (fun e he hne hlt => ?_) (fun hall => ?_) 11 0 (by omega) (by omega) (fun j hj => absurd hj (Nat.not_lt_zero _)))))
          · refine br_f h12 (py_vx ha (br_f (by decide) (py_vx hb (br_f (by decide) (br_f h3 (br_t h50 (Exists.intro 11 (py_add36 (fun e' he' hne' hlt' => ?_) (fun hall => absurd (hall e he) hne) 11 0 (by omega) (by omega) (fun j hj => absurd hj (Nat.not_lt_zero _))))))))))
            have ee : e' = e := by
              rcases Nat.lt_trichotomy e' e with t | t | t
              · exact absurd (hlt e' t) hne'
              · exact t
              · exact absurd (hlt' e t) hne
            subst ee
            refine ⟨rfl, px_rel (gx_in_lt hp he) (fun j => ?_) (fun j => ?_) (fun j => ?_) (fun j hj => ?_)⟩
            · unfold ix_up; split
              · exact ha
              · exact hA j
            · unfold ix_up; split
              · exact hb
              · exact hB j
            · unfold ix_up; split
              · omega
              · exact hW j
            · unfold ix_up
              rw [gx_bs_in] at hj
              by_cases t : j = e'
              · rw [if_pos t, if_pos t]; exact hab
              · rw [if_neg t, if_neg t]
                exact hn j (hj.elim id (fun u => absurd u t))
          · exact br_f h12 (py_vx ha (br_f (by decide) (py_vx hb (br_f (by decide) (br_f h3 (br_t h50 (Exists.intro 11 (py_add36 (fun e' he' hne' hlt' => absurd (hall e' he') hne') (fun _ => ⟨rfl, px_rel hp hA hB hW hn⟩) 11 0 (by omega) (by omega) (fun j hj => absurd hj (Nat.not_lt_zero _))))))))))
        · exact br_f h3 (br_f h50 (br_f h12 (py_vx ha (br_f (by decide) (py_vx hb (br_f (by decide) (br_f h3 (br_f h50 ⟨rfl, px_rel hp hA hB hW hn⟩))))))))
    · subst ea
      exact br_f h12 (py_vx ha (br_f (by decide) (py_vxN hx (br_t rfl ⟨rfl, px_rel hp hA hB hW hn⟩))))
    · exact br_f h12 (py_vxN hx (br_t rfl ⟨rfl, px_rel hp hA hB hW hn⟩))
theorem i_vc_remove {k : Nat} {u : SX} {v : SY} (I : i_Rel k u v) (hk : k + 4 ≤ 2048) (v1 : Int32) : wpX_remove (fun r u' => wpY_remove (fun r' v' => r' = r ∧ i_Rel (k + 4) u' v') v v1) u v1 := by
  obtain ⟨p, A, B, W, lt, pt, mt, fo, sp, pt2, rfl, rfl, hp, hA, hB, hW, hn⟩ := I
  unfold wpX_remove wpY_remove
  rcases (by rcases pk_ix v1 (n := 10) (by decide) with h | h | h; exact Or.inl (Or.inl h); exact Or.inl (Or.inr h); exact Or.inr h : (v1 < 0 ∨ nI 10 ≤ v1) ∨ ∃ j : Nat, j < 10 ∧ v1 = nI j) with hx | ⟨e, he, rfl⟩
  · exact px_hasN hx (br_t rfl (py_isN hx (br_t rfl ⟨rfl, px_rel hp hA hB hW hn⟩)))
  · refine px_has hp he (fun y => br_f (by decide) (nm_r (ix_clr hp (by omega)) ?_)) (fun y => br_t rfl ?_)
    · refine py_is he (fun _ => br_f (by decide) (And.intro (vp_in_nI he (by decide)) (nm_r (e' := ix_bf (gx_de p e)) ?_ ⟨rfl, px_rel (gx_de_lt hp) hA hB hW (fun j hj => ?_)⟩))) (fun y' => absurd y y')
      · rw [nI_clamp (by omega), ← ix_bf_de hp]; rfl
      · rw [gx_bs_de hp] at hj
        exact hn j hj.1
    · exact py_is he (fun y' => absurd y' y) (fun _ => br_t rfl ⟨rfl, px_rel hp hA hB hW hn⟩)
theorem i_vc_reweigh {k : Nat} {u : SX} {v : SY} (I : i_Rel k u v) (hk : k + 4 ≤ 2048) (v1 : Int32) (v2 : Int32) : wpX_reweigh (fun r u' => wpY_reweigh (fun r' v' => r' = r ∧ i_Rel (k + 4) u' v') v v1 v2) u v1 v2 := by
  obtain ⟨p, A, B, W, lt, pt, mt, fo, sp, pt2, rfl, rfl, hp, hA, hB, hW, hn⟩ := I
  unfold wpX_reweigh wpY_reweigh
  rcases (by rcases pk_ix v1 (n := 10) (by decide) with h | h | h; exact Or.inl (Or.inl h); exact Or.inl (Or.inr h); exact Or.inr h : (v1 < 0 ∨ nI 10 ≤ v1) ∨ ∃ j : Nat, j < 10 ∧ v1 = nI j) with hx | ⟨e, he, rfl⟩
  · exact px_hasN hx (br_t rfl (py_isN hx (br_t rfl ⟨rfl, px_rel hp hA hB hW hn⟩)))
  · refine px_has hp he (fun y => br_f (by decide) ?_) (fun y => br_t rfl ?_)
    · by_cases h3 : v2 < 0
      · exact br_t h3 (py_is he (fun _ => br_f (by decide) (br_t h3 ⟨rfl, px_rel hp hA hB hW hn⟩)) (fun y' => absurd y y'))
      · by_cases h50 : v2 ≤ 50
        · obtain ⟨w, hw, rfl⟩ := nI_of2 (M := 50) (n := 50) (by decide) h3 h50
          refine br_f h3 (br_t h50 (And.intro (vp_in_nI he (by decide)) (nm_r (e' := ix_nf (ix_up W e w)) ?_ (py_is he (fun _ => br_f (by decide) (br_f h3 (br_t h50 (And.intro (vp_in_nI he (by decide)) (nm_r (e' := ix_nf (ix_up W e w)) ?_ ⟨rfl, px_rel hp hA hB (fun j => ?_) hn⟩))))) (fun y' => absurd y y')))))
          · rw [nI_clamp (by omega), ix_byte (by omega), ix_upd]
          · rw [nI_clamp (by omega), ix_upd]
          · unfold ix_up; split
            · omega
            · exact hW j
        · exact br_f h3 (br_f h50 (py_is he (fun _ => br_f (by decide) (br_f h3 (br_f h50 ⟨rfl, px_rel hp hA hB hW hn⟩))) (fun y' => absurd y y')))
    · exact py_is he (fun y' => absurd y' y) (fun _ => br_t rfl ⟨rfl, px_rel hp hA hB hW hn⟩)
theorem i_vc_edges {k : Nat} {u : SX} {v : SY} (I : i_Rel k u v) (hk : k + 4 ≤ 2048) : wpX_edges (fun r => wpY_edges (fun r' => r' = r ∧ i_Rel (k + 4) u v) v) u := by
  have I' := I
  obtain ⟨p, A, B, W, lt, pt, mt, fo, sp, pt2, rfl, rfl, hp, hA, hB, hW, hn⟩ := I
  exact py_ed hp ⟨rfl, I'⟩
theorem i_vc_weight {k : Nat} {u : SX} {v : SY} (I : i_Rel k u v) (hk : k + 4 ≤ 2048) (v1 : Int32) : wpX_weight (fun r => wpY_weight (fun r' => r' = r ∧ i_Rel (k + 4) u v) v v1) u v1 := by
  have I' := I
  obtain ⟨p, A, B, W, lt, pt, mt, fo, sp, pt2, rfl, rfl, hp, hA, hB, hW, hn⟩ := I
  unfold wpX_weight wpY_weight
  rcases (by rcases pk_ix v1 (n := 10) (by decide) with h | h | h; exact Or.inl (Or.inl h); exact Or.inl (Or.inr h); exact Or.inr h : (v1 < 0 ∨ nI 10 ≤ v1) ∨ ∃ j : Nat, j < 10 ∧ v1 = nI j) with hx | ⟨e, he, rfl⟩
  · exact px_hasN hx (br_t rfl (py_isN hx (br_t rfl ⟨rfl, I'⟩)))
  · refine px_has hp he (fun y => br_f (by decide) (And.intro (vp_in_nI he (by decide)) ?_)) (fun y => br_t rfl ?_)
    · exact py_is he (fun _ => br_f (by decide) (And.intro (vp_in_nI he (by decide)) ⟨rfl, I'⟩)) (fun y' => absurd y y')
    · exact py_is he (fun y' => absurd y' y) (fun _ => br_t rfl ⟨rfl, I'⟩)
end
section
/-! ===== the chosen forest and the counts ===== -/
theorem ix_nm1 {m : Nat} (hm : m < 1024) : nI m ≠ -1 := by
  intro h
  have := nI_pos (n := m) (by omega)
  rw [h] at this
  exact this ix_m1
section
variable {p : Nat} {A B W : Nat → Nat} {lt : Int32} {pt : Nat → Int32} {mt : Nat → Int64} {fo sp : Nat → Int32}
theorem px_chosen {post : Int32 → SX → Prop} (hp : p < 1024) (hA : ∀ j, A j < 6) (hB : ∀ j, B j < 6) (hW : ∀ j, W j < 51)
    (h : ∀ K pt' lt', K < 1024 → (∀ j, (gx_bs K j ↔ gx_gr A B (gx_rk W) (gx_bs p) j)) → post (nI K) (nI p, lt', ix_nf A, ix_nf B, ix_nf W, pt', mt)) :
    wpX_chosen post (nI p, lt, ix_nf A, ix_nf B, ix_nf W, pt, mt) := by
  unfold wpX_chosen
  exact px_takeAll hW hA hB hp (fun K q pt' lt' h1 h2 _ _ _ => h K pt' lt' h1 h2)
theorem px_total {post : Int32 → SX → Prop} (hp : p < 1024) (hA : ∀ j, A j < 6) (hB : ∀ j, B j < 6) (hW : ∀ j, W j < 51)
    (h : ∀ K pt' lt', K < 1024 → (∀ j, (gx_bs K j ↔ gx_gr A B (gx_rk W) (gx_bs p) j)) → post (nI (gx_wt W K)) (nI p, lt', ix_nf A, ix_nf B, ix_nf W, pt', mt)) :
    wpX_total post (nI p, lt, ix_nf A, ix_nf B, ix_nf W, pt, mt) := by
  unfold wpX_total
  exact px_chosen hp hA hB hW (fun K pt' lt' h1 h2 => px_wt h1 (h K pt' lt' h1 h2))
/-- the best set is the greedy one -/
theorem py_bestK {post : Int32 → Prop} {th aA aB : Nat → Int32} (hp : p < 1024) (hW : ∀ j, W j < 51) (hsp : ∀ i, i < 1024 → sp i = ix_B (gx_sn A B (gx_bs p) (gx_bs i)))
    (h : ∀ K, K < 1024 → (∀ j, (gx_bs K j ↔ gx_gr A B (gx_rk W) (gx_bs p) j)) → post (nI K)) : wpY_best post (th, aA, aB, ix_nf W, fo, sp, pt) (-1) := by
  refine py_best hW hsp (fun hno => ?_) (fun m hm hc hmin => h m hm (gx_best hp hm hc.1 (fun m' hm' hs => hmin m' hm' ⟨hs, ix_nm1 hm'⟩)))
  obtain ⟨K, hK1, hK⟩ := gx_K (A := A) (B := B) W hp
  exact absurd ⟨gx_K_sn hp (gx_inj hp) hK, ix_nm1 hK1⟩ (hno K hK1)
theorem py_chosen {post : Int32 → SY → Prop} (hp : p < 1024) (hA : ∀ j, A j < 6) (hB : ∀ j, B j < 6) (hW : ∀ j, W j < 51)
    (h : ∀ K fo' sp' pt', K < 1024 → (∀ j, (gx_bs K j ↔ gx_gr A B (gx_rk W) (gx_bs p) j)) → (∀ i, i < 1024 → sp' i = ix_B (gx_sn A B (gx_bs p) (gx_bs i))) → post (nI K) (ix_bf p, ix_nf A, ix_nf B, ix_nf W, fo', sp', pt')) :
    wpY_chosen post (ix_bf p, ix_nf A, ix_nf B, ix_nf W, fo, sp, pt) := by
  unfold wpY_chosen
  exact py_work hA hB hp (fun fo' sp' pt' hsp => py_bestK hp hW hsp (fun K h1 h2 => h K fo' sp' pt' h1 h2 hsp))
theorem py_total {post : Int32 → SY → Prop} (hp : p < 1024) (hA : ∀ j, A j < 6) (hB : ∀ j, B j < 6) (hW : ∀ j, W j < 51)
    (h : ∀ K fo' sp' pt', K < 1024 → (∀ j, (gx_bs K j ↔ gx_gr A B (gx_rk W) (gx_bs p) j)) → (∀ i, i < 1024 → sp' i = ix_B (gx_sn A B (gx_bs p) (gx_bs i))) → post (nI (gx_wt W K)) (ix_bf p, ix_nf A, ix_nf B, ix_nf W, fo', sp', pt')) :
    wpY_total post (ix_bf p, ix_nf A, ix_nf B, ix_nf W, fo, sp, pt) := by
  unfold wpY_total
  exact py_chosen hp hA hB hW (fun K fo' sp' pt' h1 h2 h3 => py_sum h1 (h K fo' sp' pt' h1 h2 h3))
theorem gx_same {G : Nat → Prop} {K K' : Nat} (h : ∀ j, (gx_bs K j ↔ G j)) (h' : ∀ j, (gx_bs K' j ↔ G j)) : K' = K := gx_bs_x (fun j => (h' j).trans (h j).symm)
theorem py_cnt9 {post : Int32 → SY → Prop} {L : Nat} {Q : Nat → Prop} {th aA aB : Nat → Int32} (hW : ∀ j, W j < 51) (hL : L ≤ 500) (hsp : ∀ i, i < 1024 → sp i = ix_B (Q i))
    (h : post (nI (gx_sm (fun m => gx_b (Q m ∧ gx_wt W m = L)) 1024)) (th, aA, aB, ix_nf W, fo, sp, pt)) :
    ∀ n i, i ≤ 1024 → 1024 - i < n → wY_forests_9 post (nI L) th aA aB (ix_nf W) fo sp pt n (nI (gx_sm (fun m => gx_b (Q m ∧ gx_wt W m = L)) i)) (nI i) := by
  intro n
  induction n with
  | zero => intro i _ h; exact absurd h (Nat.not_lt_zero _)
  | succ n ih =>
    intro i hi hn
    by_cases z : i = 1024
    · subst z
      exact br_t (nI_le (a := 1024) (b := 1024) (Nat.le_refl _) (by decide)) h
    · have hi' : i < 1024 := by omega
      have hsi : sp (nI i).toNatClampNeg = 0 ↔ ¬ Q i := by rw [nI_clamp (by omega), hsp i hi', ix_B0]
      have st : gx_sm (fun m => gx_b (Q m ∧ gx_wt W m = L)) (i + 1) = gx_sm (fun m => gx_b (Q m ∧ gx_wt W m = L)) i + gx_b (Q i ∧ gx_wt W i = L) := rfl
      have I := ih (i + 1) (by omega) (by omega)
      have wi := gx_wt_le hW i
      refine br_f (nI_ge (b := 1024) hi' (by decide)) (And.intro (vp_in_nI hi' (by decide)) (br_c (fun y => nm_r (e' := nI (gx_sm (fun m => gx_b (Q m ∧ gx_wt W m = L)) (i + 1))) ?_ (nm_r (nI_1 i) I)) (fun y => py_sum hi' ?_)))
      · rw [st, gx_b_f (fun t => hsi.mp y t.1), Nat.add_zero, Int32.add_zero]
      · rw [nI_eq (by omega) (by omega)]
        refine br_c (fun u => nm_r (e' := nI (gx_sm (fun m => gx_b (Q m ∧ gx_wt W m = L)) (i + 1))) ?_ (nm_r (nI_1 i) I)) (fun u => nm_r (e' := nI (gx_sm (fun m => gx_b (Q m ∧ gx_wt W m = L)) (i + 1))) ?_ (nm_r (nI_1 i) I))
        · rw [st, gx_b_t ⟨Classical.byContradiction (fun t => y (hsi.mpr t)), u⟩, nI_1]
        · rw [st, gx_b_f (fun t => u t.2), Nat.add_zero, Int32.add_zero]
theorem py_cnt8 {post : Int32 → SY → Prop} {Q : Nat → Prop} {th aA aB hv : Nat → Int32} (hsp : ∀ i, i < 1024 → sp i = ix_B (Q i))
    (h : post (nI (gx_sm (fun m => gx_b (Q m)) 1024)) (th, aA, aB, hv, fo, sp, pt)) :
    ∀ n i, i ≤ 1024 → 1024 - i < n → wY_allForests_8 post th aA aB hv fo sp pt n (nI (gx_sm (fun m => gx_b (Q m)) i)) (nI i) := by
  intro n
  induction n with
  | zero => intro i _ h; exact absurd h (Nat.not_lt_zero _)
  | succ n ih =>
    intro i hi hn
    by_cases z : i = 1024
    · subst z
      exact br_t (nI_le (a := 1024) (b := 1024) (Nat.le_refl _) (by decide)) h
    · have hi' : i < 1024 := by omega
      have hsi : sp (nI i).toNatClampNeg = 0 ↔ ¬ Q i := by rw [nI_clamp (by omega), hsp i hi', ix_B0]
      have st : gx_sm (fun m => gx_b (Q m)) (i + 1) = gx_sm (fun m => gx_b (Q m)) i + gx_b (Q i) := rfl
      have I := ih (i + 1) (by omega) (by omega)
      refine br_f (nI_ge (b := 1024) hi' (by decide)) (And.intro (vp_in_nI hi' (by decide)) (br_c (fun y => nm_r (e' := nI (gx_sm (fun m => gx_b (Q m)) (i + 1))) ?_ (nm_r (nI_1 i) I)) (fun y => nm_r (e' := nI (gx_sm (fun m => gx_b (Q m)) (i + 1))) ?_ (nm_r (nI_1 i) I))))
      · rw [st, gx_b_f (hsi.mp y), Nat.add_zero, Int32.add_zero]
      · rw [st, gx_b_t (Classical.byContradiction (fun t => y (hsi.mpr t))), nI_1]
theorem gx_NT_0 {t : Nat} (h0 : gx_em p W t = 0) : gx_NT A B p W t = 1 := by
  have h := gx_sm_u (f := fun m => gx_b (gx_BA A B (gx_em p W t) (gx_bs (gx_lm p W t)) m)) (g := fun _ => 0) (i := 0) 1024 (by decide) (fun m _ hm => by
    refine gx_b_f (fun b => hm (gx_bs_x (fun j => ⟨fun hj => ?_, fun hj => absurd hj (gx_bs0 j)⟩)))
    have := (b.1 j hj).1
    rw [h0] at this
    exact this)
  rw [gx_sm_0 1024 (fun _ _ => rfl)] at h
  have h2 : gx_b (gx_BA A B (gx_em p W t) (gx_bs (gx_lm p W t)) 0) = 1 := gx_b_t ⟨fun j hj => absurd hj (gx_bs0 j), fun j hj => by rw [h0] at hj; exact absurd hj (gx_bs0 j)⟩
  have h3 : gx_NT A B p W t + 0 = 0 + gx_b (gx_BA A B (gx_em p W t) (gx_bs (gx_lm p W t)) 0) := h
  omega
theorem px_for4 {post : Int32 → SX → Prop} (hp : p < 1024) (hA : ∀ j, A j < 6) (hB : ∀ j, B j < 6) (hW : ∀ j, W j < 51)
    (h : ∀ lt' pt' mt', post (nI (gx_CT A B p W 51)) (nI p, lt', ix_nf A, ix_nf B, ix_nf W, pt', mt')) :
    ∀ n t, t ≤ 51 → 51 - t < n → ∀ (lt : Int32) (pt : Nat → Int32) (mt : Nat → Int64), wX_forests_4 post n (lN (gx_CT A B p W t)) (nI t) (nI p) lt (ix_nf A) (ix_nf B) (ix_nf W) pt mt := by
  intro n
  induction n with
  | zero => intro t _ h; exact absurd h (Nat.not_lt_zero _)
  | succ n ih =>
    intro t ht hn lt pt mt
    by_cases z : t = 51
    · subst z
      refine br_t (nI_lt (a := 50) (b := 51) (by decide) (by decide)) ?_
      rw [lN_i]
      exact h lt pt mt
    · have hem : gx_lm p W (t + 1) &&& (1023 ^^^ gx_lm p W t) = gx_em p W t := gx_bs_x (fun j => by
        rw [gx_em_b hp]
        have l1 : gx_bs (gx_lm p W (t + 1)) j ↔ gx_bs p j ∧ W j < t + 1 := gx_lm_b hp
        have l2 : gx_bs (gx_lm p W t) j ↔ gx_bs p j ∧ W j < t := gx_lm_b hp
        have e1 : gx_bs (gx_lm p W (t + 1) &&& (1023 ^^^ gx_lm p W t)) j ↔ (gx_bs (gx_lm p W (t + 1)) j ∧ ¬ gx_bs (gx_lm p W t) j) := by
          unfold gx_bs
          rw [Nat.testBit_and, Nat.testBit_xor, show (1023 : Nat) = 2 ^ 10 - 1 from rfl, Nat.testBit_two_pow_sub_one]
          by_cases y : j < 10
          · simp [y]
          · rw [gx_hi (gx_lm_lt p W (t + 1)) (by omega)]; simp
        rw [e1, l1, l2]
        constructor
        · intro u
          refine ⟨u.1.1, ?_⟩
          have a := u.1.2
          have b : ¬ W j < t := fun v => u.2 ⟨u.1.1, v⟩
          omega
        · intro u
          exact ⟨⟨u.1, by have := u.2; omega⟩, fun v => by have := u.2; have := v.2; omega⟩)
      have hs := gx_CT_s A B W hp t
      have hel := gx_em_lt p W t
      refine br_f (nI_nlt (a := 50) (b := t) (by omega) (by decide)) (px_lm hp hW (by omega) ?_)
      rw [nI_1]
      refine px_lm hp hW (by omega) (nm_r (e' := nI (gx_em p W t)) (by rw [ix_not (gx_lm_lt p W (t + 1)), hem]) (br_c (fun y => nm_e ?_) (fun y => ?_)))
      · have y' : gx_em p W t = 0 := by
          have y2 : nI (gx_em p W t) = nI 0 := y
          exact (nI_eq (by omega) (by decide)).mp y2
        have I := ih (t + 1) (by omega) (by omega) lt pt mt
        rw [hs, gx_NT_0 y', Nat.mul_one] at I
        exact I
      · refine px_takeAll hW hA hB (gx_lm_lt p W t) (fun tk q pt' lt' _ _ hq hl hP => px_count hA hB hel hq hl hP (fun pt2 mt2 => nm_r (e' := lN (gx_CT A B p W (t + 1))) ?_ (nm_e (ih (t + 1) (by omega) (by omega) lt' pt2 mt2))))
        rw [hs]
        exact lN_mul _ _
end
theorem i_vc_chosen {k : Nat} {u : SX} {v : SY} (I : i_Rel k u v) (hk : k + 4 ≤ 2048) : wpX_chosen (fun r u' => wpY_chosen (fun r' v' => r' = r ∧ i_Rel (k + 4) u' v') v) u := by
  obtain ⟨p, A, B, W, lt, pt, mt, fo, sp, pt2, rfl, rfl, hp, hA, hB, hW, hn⟩ := I
  exact px_chosen hp hA hB hW (fun K pt' lt' h1 h2 => py_chosen hp hA hB hW (fun K' fo' sp' pt2' h1' h2' h3' => ⟨by rw [gx_same h2 h2'], px_rel hp hA hB hW hn⟩))
theorem i_vc_total {k : Nat} {u : SX} {v : SY} (I : i_Rel k u v) (hk : k + 4 ≤ 2048) : wpX_total (fun r u' => wpY_total (fun r' v' => r' = r ∧ i_Rel (k + 4) u' v') v) u := by
  obtain ⟨p, A, B, W, lt, pt, mt, fo, sp, pt2, rfl, rfl, hp, hA, hB, hW, hn⟩ := I
  exact px_total hp hA hB hW (fun K pt' lt' h1 h2 => py_total hp hA hB hW (fun K' fo' sp' pt2' h1' h2' h3' => ⟨by rw [gx_same h2 h2'], px_rel hp hA hB hW hn⟩))
theorem i_vc_forests {k : Nat} {u : SX} {v : SY} (I : i_Rel k u v) (hk : k + 4 ≤ 2048) : wpX_forests (fun r u' => wpY_forests (fun r' v' => r' = r ∧ i_Rel (k + 4) u' v') v) u := by
  obtain ⟨p, A, B, W, lt, pt, mt, fo, sp, pt2, rfl, rfl, hp, hA, hB, hW, hn⟩ := I
  have st := fun post h => px_for4 (post := post) hp hA hB hW h 52 0 (by omega) (by omega) lt pt mt
  rw [gx_CT_0 A B W hp] at st
  refine Exists.intro 52 (st _ (fun lt' pt' mt' => ?_))
  unfold wpY_forests
  refine py_total hp hA hB hW (fun K fo' sp' pt2' h1 h2 h3 => Exists.intro 1025 (py_cnt9 hW (gx_wt_le hW K) h3 ⟨?_, px_rel hp hA hB hW hn⟩ 1025 0 (by omega) (by omega)))
  rw [gx_cheap hp hW h1 h2]
theorem i_vc_allForests {k : Nat} {u : SX} {v : SY} (I : i_Rel k u v) (hk : k + 4 ≤ 2048) : wpX_allForests (fun r u' => wpY_allForests (fun r' v' => r' = r ∧ i_Rel (k + 4) u' v') v) u := by
  obtain ⟨p, A, B, W, lt, pt, mt, fo, sp, pt2, rfl, rfl, hp, hA, hB, hW, hn⟩ := I
  unfold wpX_allForests
  refine px_sep (fun pt' hpt => px_count (S := fun _ => False) (q := fun v => v) hA hB hp (gx_lb_0 (fun _ t => t) (fun _ _ => rfl)) (fun v _ => Nat.le_refl _) hpt (fun pt3 mt3 => ?_))
  unfold wpY_allForests
  refine py_work hA hB hp (fun fo' sp' pt2' hsp => Exists.intro 1025 (py_cnt8 hsp ⟨?_, px_rel hp hA hB hW hn⟩ 1025 0 (by omega) (by omega)))
  rw [lN_i]
  exact congrArg nI (gx_sm_c _ (fun m _ => gx_b_c (gx_all hp).symm))
end
section
/-! ===== limit, loss, second ===== -/
/-- one less, or none -/
def px_an (T : Nat) : Int32 := match T with
  | 0 => -1
  | w + 1 => nI w
theorem ix_up_c {W W' : Nat → Nat} {e : Nat} (h : ∀ j, j ≠ e → W' j = W j) (w : Nat) : ix_up W' e w = ix_up W e w := by
  funext j
  unfold ix_up
  by_cases z : j = e
  · rw [if_pos z, if_pos z]
  · rw [if_neg z, if_neg z, h j z]
theorem ix_up_r {W W' : Nat → Nat} {e : Nat} (h : ∀ j, j ≠ e → W' j = W j) : ix_up W' e (W e) = W := by
  funext j
  unfold ix_up
  by_cases z : j = e
  · rw [if_pos z, z]
  · rw [if_neg z, h j z]
/-- at which weights e is chosen -/
theorem gx_lim {A B W : Nat → Nat} {p e l : Nat} (hp : p < 1024) (he : gx_bs p e) (hL : px_L A B W (gx_de p e) l (A e) (B e)) (w : Nat) :
    gx_gr A B (gx_rk (ix_up W e w)) (gx_bs p) e ↔ w < (if e < l then W l + 1 else W l) := by
  obtain ⟨hl, hc, hn⟩ := hL
  have e10 := gx_lt10 hp he
  have l10 := gx_lt10 (gx_de_lt hp) hl
  have bs := gx_bs_de (e := e) hp
  rw [bs] at hl hc hn
  have hle : l ≠ e := hl.2
  have re : gx_rk (ix_up W e w) e = 10 * w + e := by unfold gx_rk ix_up; rw [if_pos rfl]
  have rj : ∀ j, j ≠ e → gx_rk (ix_up W e w) j = gx_rk W j := fun j hj => by unfold gx_rk ix_up; rw [if_neg hj]
  have hlr : gx_rk W l = 10 * W l + l := rfl
  have hT : (w < (if e < l then W l + 1 else W l)) ↔ 10 * w + e < gx_rk W l := by
    rw [hlr]
    by_cases z : e < l
    · rw [if_pos z]; omega
    · rw [if_neg z]; omega
  rw [hT]
  constructor
  · intro g
    refine Classical.byContradiction (fun t => g.2 (gx_cmono (fun j hj => ?_) hc))
    refine ⟨hj.1.1, ?_⟩
    rw [re, rj j hj.1.2]
    have a := hj.2
    have b : gx_rk W l ≠ 10 * w + e := by rw [hlr]; omega
    omega
  · intro t
    refine ⟨he, fun c => hn (gx_cmono (fun j hj => ?_) c)⟩
    have a := hj.2
    rw [re] at a
    have hje : j ≠ e := fun u => by rw [u, re] at a; omega
    rw [rj j hje] at a
    exact ⟨⟨hj.1, hje⟩, by omega⟩
section
variable {p : Nat} {A B W : Nat → Nat} {lt : Int32} {pt : Nat → Int32} {mt : Nat → Int64} {fo sp : Nat → Int32}
theorem py_lim38 {post : Int32 → SY → Prop} {e T : Nat} {th aA aB : Nat → Int32} (hp : p < 1024) (hW : ∀ j, W j < 51) (he : e < 10)
    (hsp : ∀ i, i < 1024 → sp i = ix_B (gx_sn A B (gx_bs p) (gx_bs i))) (hg : ∀ w, (gx_gr A B (gx_rk (ix_up W e w)) (gx_bs p) e ↔ w < T))
    (h : post (px_an T) (th, aA, aB, ix_nf W, fo, sp, pt)) :
    ∀ n d, d ≤ 51 → d + 1 < n → T ≤ d → ∀ W' : Nat → Nat, (∀ j, j ≠ e → W' j = W j) → wY_limit_38 post (nI e) (nI (W e)) n (-1) (nI d + (-1)) th aA aB (ix_nf W') fo sp pt := by
  have hin : vp_in (nI e) 10 := vp_in_nI he (by decide)
  have hcl : (nI e).toNatClampNeg = e := nI_clamp (by omega)
  intro n
  induction n with
  | zero => intro d _ h; exact absurd h (Nat.not_lt_zero _)
  | succ n ih =>
    intro d hd hn hT W' hW'
    have rs : ∀ W2 : Nat → Nat, (∀ j, j ≠ e → W2 j = W j) → upd (ix_nf W2) (nI e).toNatClampNeg (nI (W e)) = ix_nf W := fun W2 h2 => by rw [hcl, ix_upd, ix_up_r h2]
    cases d with
    | zero =>
      have T0 : T = 0 := by omega
      rw [T0] at h
      exact br_t (by decide) (And.intro hin (nm_r (rs W' hW') h))
    | succ w =>
      rw [pk_m1]
      have hW2 : ∀ j, ix_up W e w j < 51 := fun j => by
        unfold ix_up
        have := hW j
        split <;> omega
      have h2 : ∀ j, j ≠ e → ix_up W e w j = W j := fun j hj => if_neg hj
      refine br_f (nI_pos (by omega)) (br_f (by decide) (And.intro hin (nm_r (e' := ix_nf (ix_up W e w)) (by rw [hcl, ix_upd, ix_up_c hW']) (py_bestK hp hW2 hsp (fun K hK1 hK => ?_)))))
      have hb1 : ((nI K >>> (nI e &&& 31)) &&& 1) = 1 ↔ w < T := (ix_bit1 (by omega) (by omega)).trans ((hK e).trans (hg w))
      refine br_c (fun y => nm_e ?_) (fun y => nm_e (ih w (by omega) (by omega) (by have : ¬ w < T := fun t => y (hb1.mpr t); omega) _ h2))
      have Tw : T = w + 1 := by have := hb1.mp y; omega
      rw [Tw] at h
      obtain ⟨n', rfl⟩ : ∃ n', n = n' + 1 := ⟨n - 1, by omega⟩
      exact br_c (fun _ => And.intro hin (nm_r (rs _ h2) h)) (fun _ => br_t (nI_pos' (by omega)) (And.intro hin (nm_r (rs _ h2) h)))
end
theorem i_vc_limit {k : Nat} {u : SX} {v : SY} (I : i_Rel k u v) (hk : k + 4 ≤ 2048) (v1 : Int32) : wpX_limit (fun r u' => wpY_limit (fun r' v' => r' = r ∧ i_Rel (k + 4) u' v') v v1) u v1 := by
  obtain ⟨p, A, B, W, lt, pt, mt, fo, sp, pt2, rfl, rfl, hp, hA, hB, hW, hn⟩ := I
  unfold wpX_limit wpY_limit
  rcases (by rcases pk_ix v1 (n := 10) (by decide) with h | h | h; exact Or.inl (Or.inl h); exact Or.inl (Or.inr h); exact Or.inr h : (v1 < 0 ∨ nI 10 ≤ v1) ∨ ∃ j : Nat, j < 10 ∧ v1 = nI j) with hx | ⟨e, he, rfl⟩
  · exact px_hasN hx (br_t rfl (py_isN hx (br_t rfl ⟨rfl, px_rel hp hA hB hW hn⟩)))
  · have hin : vp_in (nI e) 10 := vp_in_nI he (by decide)
    have hcl : (nI e).toNatClampNeg = e := nI_clamp (by omega)
    refine px_has hp he (fun y => br_f (by decide) (And.intro hin (And.intro hin ?_))) (fun y => br_t rfl (py_is he (fun y' => absurd y' y) (fun _ => br_t rfl ⟨rfl, px_rel hp hA hB hW hn⟩)))
    rw [hcl, ix_clr hp (by omega)]
    have hcn : ∀ a b, gx_cn A B (gx_bs (gx_de p e)) a b ↔ gx_cn A B (fun j => gx_bs p j ∧ j ≠ e) a b := fun a b => by rw [gx_bs_de hp]
    refine px_takeTo (a := A e) (b := B e) hW hA hB (gx_de_lt hp) (hA e) (hB e) (fun r q pt' lt' hP hq6 hiff hL => ?_)
    refine And.intro hin (And.intro hin (px_joined (x := A e) (y := B e) hP hq6 (hA e) (hB e) (fun hj => br_f (by decide) ?_) (fun hj => br_t rfl ?_)))
    · have hcl' : gx_cl A B (fun j => gx_bs p j ∧ j ≠ e) e := (hcn _ _).mp (hiff.mp hj)
      rcases hL hj with hL1 | ⟨l, hl, hL1⟩
      · exact absurd hL1.1 (hn e y)
      · subst hl
        have l10 := gx_lt10 (gx_de_lt hp) hL1.1
        have hle : l ≠ e := fun t => by
          have := hL1.1
          rw [gx_bs_de hp] at this
          exact this.2 t
        have ans : ∀ post : Int32 → SX → Prop, ∀ st : SX, st = (nI p, nI l, ix_nf A, ix_nf B, ix_nf W, pt', mt) → post (px_an (if e < l then W l + 1 else W l)) st →
            (nI l ≤ nI e → vp_in (nI l) 10 ∧ wX_limit_90 post ((ix_nf W (nI l).toNatClampNeg) - 1) (nI p) (nI l) (ix_nf A) (ix_nf B) (ix_nf W) pt' mt) ∧ (¬ nI l ≤ nI e → vp_in (nI l) 10 ∧ wX_limit_90 post (ix_nf W (nI l).toNatClampNeg) (nI p) (nI l) (ix_nf A) (ix_nf B) (ix_nf W) pt' mt) := by
          intro post st hst hpost
          subst hst
          have wl := hW l
          rw [nI_clamp (n := l) (by omega), nI_leI (by omega) (by omega)]
          refine br_c (fun t => And.intro (vp_in_nI l10 (by decide)) ?_) (fun t => And.intro (vp_in_nI l10 (by decide)) ?_)
          · rw [if_neg (by omega)] at hpost
            show wX_limit_90 post (nI (W l) - 1) _ _ _ _ _ _ _
            generalize W l = w at hpost wl
            cases w with
            | zero => exact br_f (by decide) hpost
            | succ w =>
              rw [nI_pred]
              exact br_t (nI_pos' (by omega)) hpost
          · rw [if_pos (by omega)] at hpost
            exact br_t (nI_pos' (by omega)) hpost
        refine ans _ _ rfl (py_is he (fun _ => br_f (by decide) (py_work hA hB hp (fun fo' sp' pt2' hsp => py_need he hsp (fun hall => absurd hcl' ((gx_need hp y).mp hall)) (fun _ => br_t rfl (And.intro hin (nm_r (e' := nI (W e)) rfl (Exists.intro 53 ?_))))))) (fun y' => absurd y y'))
        exact py_lim38 hp hW he hsp (gx_lim hp y hL1) ⟨rfl, px_rel hp hA hB hW hn⟩ 53 51 (by omega) (by omega) (by have := hW l; split <;> omega) W (fun _ _ => rfl)
    · have hncl : ¬ gx_cl A B (fun j => gx_bs p j ∧ j ≠ e) e := fun c => hj (hiff.mpr ((hcn _ _).mpr c))
      exact py_is he (fun _ => br_f (by decide) (py_work hA hB hp (fun fo' sp' pt2' hsp => py_need he hsp (fun _ => br_f (by decide) ⟨rfl, px_rel hp hA hB hW hn⟩) (fun hno => absurd ((gx_need hp y).mpr hncl) hno)))) (fun y' => absurd y y')
theorem i_vc_loss {k : Nat} {u : SX} {v : SY} (I : i_Rel k u v) (hk : k + 4 ≤ 2048) (v1 : Int32) : wpX_loss (fun r u' => wpY_loss (fun r' v' => r' = r ∧ i_Rel (k + 4) u' v') v v1) u v1 := by
  obtain ⟨p, A, B, W, lt, pt, mt, fo, sp, pt2, rfl, rfl, hp, hA, hB, hW, hn⟩ := I
  unfold wpX_loss wpY_loss
  rcases (by rcases pk_ix v1 (n := 10) (by decide) with h | h | h; exact Or.inl (Or.inl h); exact Or.inl (Or.inr h); exact Or.inr h : (v1 < 0 ∨ nI 10 ≤ v1) ∨ ∃ j : Nat, j < 10 ∧ v1 = nI j) with hx | ⟨e, he, rfl⟩
  · exact px_hasN hx (br_t rfl (py_isN hx (br_t rfl ⟨rfl, px_rel hp hA hB hW hn⟩)))
  · have hin : vp_in (nI e) 10 := vp_in_nI he (by decide)
    have hcl : (nI e).toNatClampNeg = e := nI_clamp (by omega)
    have hd : gx_de p e < 1024 := gx_de_lt hp
    refine px_has hp he (fun y => br_f (by decide) (px_chosen hp hA hB hW (fun K pt' lt' hK1 hK => ?_))) (fun y => br_t rfl (py_is he (fun y' => absurd y' y) (fun _ => br_t rfl ⟨rfl, px_rel hp hA hB hW hn⟩)))
    dsimp only
    rw [ix_clr (e := e) hp (by omega)]
    refine px_takeAll hW hA hB hd (fun K' q pt3 lt3 hK1' hK' _ _ _ => px_sz hK1' (px_sz hK1 ?_))
    have c1 := gx_card10 K
    have c2 := gx_card10 K'
    have hsz := gx_size hp y hK1 hK hK1' hK'
    rw [nI_leI (by omega) (by omega)]
    refine br_c (fun t => px_wt hK1' (px_wt hK1 ?_)) (fun t => ?_)
    · have hc : gx_cl A B (fun j => gx_bs p j ∧ j ≠ e) e := Classical.byContradiction (fun c => by have := hsz.2 c; omega)
      refine py_is he (fun _ => br_f (by decide) (py_total hp hA hB hW (fun K2 fo2 sp2 pt4 hK12 hK2 hsp2 => py_need he hsp2 (fun hall => absurd hc ((gx_need hp y).mp hall)) (fun _ => br_t rfl (And.intro hin (nm_r (e' := ix_bf (gx_de p e)) (by rw [hcl, ← ix_bf_de hp]; rfl) ?_)))))) (fun y' => absurd y y')
      refine py_total hd hA hB hW (fun K3 fo3 sp3 pt5 hK13 hK3 hsp3 => And.intro hin (nm_r (e' := ix_bf p) ?_ ⟨?_, px_rel hp hA hB hW hn⟩))
      · rw [hcl]
        show upd (ix_bf (gx_de p e)) e 1 = ix_bf p
        rw [ix_bf_in]
        refine congrArg ix_bf (gx_bs_x (fun j => ?_))
        rw [gx_bs_in, gx_bs_de hp]
        constructor
        · intro w
          rcases w with w | w
          · exact w.1
          · exact w ▸ y
        · intro w
          by_cases z : j = e
          · exact Or.inr z
          · exact Or.inl ⟨w, z⟩
      · rw [gx_same hK hK2, gx_same hK' hK3]
    · have hc : ¬ gx_cl A B (fun j => gx_bs p j ∧ j ≠ e) e := fun c => by have := hsz.1 c; omega
      exact py_is he (fun _ => br_f (by decide) (py_total hp hA hB hW (fun K2 fo2 sp2 pt4 hK12 hK2 hsp2 => py_need he hsp2 (fun _ => br_f (by decide) ⟨rfl, px_rel hp hA hB hW hn⟩) (fun hno => absurd ((gx_need hp y).mpr hc) hno)))) (fun y' => absurd y y')
end
section
/-! ===== second ===== -/
/-- v is the weight of a spanning forest other than K, and no more than any exchange by an edge below i -/
def px_V (A B W : Nat → Nat) (p K i v : Nat) : Prop :=
  (∃ m, m < 1024 ∧ gx_sn A B (gx_bs p) (gx_bs m) ∧ m ≠ K ∧ gx_wt W m = v) ∧
  ∀ f, f < i → gx_bs p f → ¬ gx_bs K f → ∀ e, gx_bs K e → ¬ gx_cl A B (fun j => gx_bs K j ∧ j ≠ e) f → v + W e ≤ gx_wt W K + W f
section
variable {p K : Nat} {A B W : Nat → Nat} {lt : Int32} {pt : Nat → Int32} {mt : Nat → Int64}
/-- the exchange by edge i -/
theorem px_exch {i l : Nat} (hp : p < 1024) (hK1 : K < 1024) (hK : ∀ j, (gx_bs K j ↔ gx_gr A B (gx_rk W) (gx_bs p) j)) (hi : gx_bs p i) (hni : ¬ gx_bs K i) (hL : px_L A B W K l (A i) (B i)) :
    W l ≤ gx_wt W K ∧ (∃ m, m < 1024 ∧ gx_sn A B (gx_bs p) (gx_bs m) ∧ m ≠ K ∧ gx_wt W m = gx_wt W K + W i - W l) ∧
    ∀ e, gx_bs K e → ¬ gx_cl A B (fun j => gx_bs K j ∧ j ≠ e) i → gx_wt W K + W i - W l + W e ≤ gx_wt W K + W i := by
  have hs := gx_K_sn hp (gx_inj hp) hK
  obtain ⟨hl, hc, hn⟩ := hL
  have i10 := gx_lt10 hp hi
  have l10 := gx_lt10 hK1 hl
  have hla := gx_last (ρ := gx_rk W) hK1 hs hl hc hn (gx_inj hK1)
  have hwl := gx_wt_de (w := W) hK1 hl
  have hsw := gx_swap hs hi hl hla.1
  rw [← gx_bs_sw hK1] at hsw
  have hws := gx_wt_sw (w := W) hK1 i10 hl hni
  refine ⟨by omega, ⟨gx_sw K l i, gx_sw_lt hK1 i10, hsw, fun t => hni ?_, by omega⟩, fun e he hne => ?_⟩
  · have : gx_bs (gx_sw K l i) i := by rw [gx_bs_sw hK1]; exact Or.inr rfl
    rw [t] at this
    exact this
  · have r := hla.2 e he hne
    have e10 := gx_lt10 hK1 he
    unfold gx_rk at r
    omega
theorem px_V_s {i v : Nat} (h : gx_bs p i → gx_bs K i) (hV : px_V A B W p K i v) : px_V A B W p K (i + 1) v :=
  ⟨hV.1, fun f hf hpf hnf => by
    by_cases z : f = i
    · subst z; exact absurd (h hpf) hnf
    · exact hV.2 f (by omega) hpf hnf⟩
theorem px_sec16 {post : Int32 → SX → Prop} (hp : p < 1024) (hA : ∀ j, A j < 6) (hB : ∀ j, B j < 6) (hW : ∀ j, W j < 51) (hn : ∀ j, gx_bs p j → A j ≠ B j)
    (hK1 : K < 1024) (hK : ∀ j, (gx_bs K j ↔ gx_gr A B (gx_rk W) (gx_bs p) j))
    (h0 : (∀ f, f < 10 → gx_bs p f → gx_bs K f) → ∀ lt' pt', post (-1) (nI p, lt', ix_nf A, ix_nf B, ix_nf W, pt', mt))
    (h1 : ∀ v, px_V A B W p K 10 v → ∀ lt' pt', post (nI v) (nI p, lt', ix_nf A, ix_nf B, ix_nf W, pt', mt)) :
    ∀ n i, i ≤ 10 → 10 - i < n → ∀ (lt : Int32) (pt : Nat → Int32),
      ((∀ f, f < i → gx_bs p f → gx_bs K f) → wX_second_16 post (nI K) (nI (gx_wt W K)) n (-1) (nI i) (nI p) lt (ix_nf A) (ix_nf B) (ix_nf W) pt mt) ∧
      (∀ v, px_V A B W p K i v → wX_second_16 post (nI K) (nI (gx_wt W K)) n (nI v) (nI i) (nI p) lt (ix_nf A) (ix_nf B) (ix_nf W) pt mt) := by
  have hs := gx_K_sn hp (gx_inj hp) hK
  have wK := gx_wt_le hW K
  intro n
  induction n with
  | zero => intro i _ h; exact absurd h (Nat.not_lt_zero _)
  | succ n ih =>
    intro i hi hn' lt pt
    by_cases z : i = 10
    · subst z
      have le : (10 : Int32) ≤ nI 10 := nI_le (a := 10) (b := 10) (Nat.le_refl _) (by decide)
      exact ⟨fun t => br_t le (h0 t lt pt), fun v hV => br_t le (h1 v hV lt pt)⟩
    · have hi10 : i < 10 := by omega
      have nle : ¬ (10 : Int32) ≤ nI i := nI_ge (b := 10) hi10 (by decide)
      have hin : vp_in (nI i) 10 := vp_in_nI hi10 (by decide)
      have hcl : (nI i).toNatClampNeg = i := nI_clamp (by omega)
      have hb0 : ((nI K >>> (nI i &&& 31)) &&& 1) = 0 ↔ ¬ gx_bs K i := ix_bit0 (by omega) (by omega)
      have I := ih (i + 1) (by omega) (by omega)
      have sk : (gx_bs p i → gx_bs K i) → (∀ f, f < i → gx_bs p f → gx_bs K f) → ∀ f, f < i + 1 → gx_bs p f → gx_bs K f := by
        intro c t f hf
        by_cases u : f = i
        · rw [u]; exact c
        · exact t f (by omega)
      have wi := hW i
      have jn : ∀ q : Nat → Nat, gx_bs p i → (q (A i) = q (B i) ↔ gx_cn A B (gx_bs K) (A i) (B i)) → q (A i) = q (B i) := fun q y hiff => hiff.mpr (hs.2.2 i y)
      have val : ∀ l, W l ≤ gx_wt W K → nI (gx_wt W K) + ix_nf W i - ix_nf W l = nI (gx_wt W K + W i - W l) := by
        intro l hl
        show nI (gx_wt W K) + nI (W i) - nI (W l) = _
        rw [nI_add, pk_sub (by omega)]
      refine ⟨fun t => br_f nle (px_has hp hi10 (fun y => br_f (by decide) (br_c (fun w => And.intro hin (And.intro hin ?_)) (fun w => nm_r (nI_1 i) ((I lt pt).1 (sk (fun _ => Classical.byContradiction (fun c => w (hb0.mpr c))) t))))) (fun y => br_t rfl (nm_r (nI_1 i) ((I lt pt).1 (sk (fun c => absurd c y) t))))),
        fun v hV => br_f nle (px_has hp hi10 (fun y => br_f (by decide) (br_c (fun w => And.intro hin (And.intro hin ?_)) (fun w => nm_r (nI_1 i) ((I lt pt).2 v (px_V_s (fun _ => Classical.byContradiction (fun c => w (hb0.mpr c))) hV))))) (fun y => br_t rfl (nm_r (nI_1 i) ((I lt pt).2 v (px_V_s (fun c => absurd c y) hV)))))⟩
      · rw [hcl]
        refine px_takeTo (a := A i) (b := B i) hW hA hB hK1 (hA i) (hB i) (fun r q pt' lt' hP hq6 hiff hL => ?_)
        rcases hL (jn q y hiff) with hL1 | ⟨l, hl, hL1⟩
        · exact absurd hL1.1 (hn i y)
        · subst hl
          have l10 := gx_lt10 hK1 hL1.1
          obtain ⟨x1, x2, x3⟩ := px_exch hp hK1 hK y (hb0.mp w) hL1
          refine And.intro hin (And.intro (vp_in_nI l10 (by decide)) ?_)
          rw [nI_clamp (n := l) (by omega)]
          refine nm_r (val l x1) (br_t ix_m1 (nm_r (nI_1 i) ((I (nI l) pt').2 _ ⟨x2, fun f hf hpf hnf => ?_⟩)))
          by_cases u : f = i
          · subst u; exact x3
          · exact absurd (t f (by omega) hpf) hnf
      · rw [hcl]
        refine px_takeTo (a := A i) (b := B i) hW hA hB hK1 (hA i) (hB i) (fun r q pt' lt' hP hq6 hiff hL => ?_)
        rcases hL (jn q y hiff) with hL1 | ⟨l, hl, hL1⟩
        · exact absurd hL1.1 (hn i y)
        · subst hl
          have l10 := gx_lt10 hK1 hL1.1
          obtain ⟨x1, x2, x3⟩ := px_exch hp hK1 hK y (hb0.mp w) hL1
          obtain ⟨m, hm, _, _, hmv⟩ := hV.1
          have wm := gx_wt_le hW m
          refine And.intro hin (And.intro (vp_in_nI l10 (by decide)) ?_)
          rw [nI_clamp (n := l) (by omega)]
          refine nm_r (val l x1) (br_f (nI_pos (by omega)) ?_)
          rw [nI_leI (by omega) (by omega)]
          refine br_c (fun c => nm_r (nI_1 i) ((I (nI l) pt').2 _ ⟨hV.1, fun f hf hpf hnf e he hne => ?_⟩)) (fun c => nm_r (nI_1 i) ((I (nI l) pt').2 _ ⟨x2, fun f hf hpf hnf e he hne => ?_⟩))
          · by_cases u : f = i
            · subst u
              have := x3 e he hne
              omega
            · exact hV.2 f (by omega) hpf hnf e he hne
          · by_cases u : f = i
            · subst u
              exact x3 e he hne
            · have := hV.2 f (by omega) hpf hnf e he hne
              omega
end
theorem i_vc_second {k : Nat} {u : SX} {v : SY} (I : i_Rel k u v) (hk : k + 4 ≤ 2048) : wpX_second (fun r u' => wpY_second (fun r' v' => r' = r ∧ i_Rel (k + 4) u' v') v) u := by
  obtain ⟨p, A, B, W, lt, pt, mt, fo, sp, pt2, rfl, rfl, hp, hA, hB, hW, hn⟩ := I
  unfold wpX_second
  refine px_chosen hp hA hB hW (fun K pt' lt' hK1 hK => px_wt hK1 (Exists.intro 11 ((px_sec16 hp hA hB hW hn hK1 hK (fun hall lt2 pt3 => ?_) (fun v hV lt2 pt3 => ?_) 11 0 (by omega) (by omega) lt' pt').1 (fun f hf => absurd hf (Nat.not_lt_zero _)))))
  · unfold wpY_second
    refine py_chosen hp hA hB hW (fun K' fo' sp' pt2' hK1' hK' hsp => ?_)
    obtain rfl := gx_same hK hK'
    refine py_best hW hsp (fun _ => br_f (by decide) ⟨rfl, px_rel hp hA hB hW hn⟩) (fun m hm hc _ => ?_)
    obtain ⟨e, f, b1, b2, _⟩ := gx_snd hp hK1 hK m hm hc.1 (fun t => hc.2 (by rw [t]))
    exact absurd (hall f (gx_lt10 hp b1) b1) b2
  · unfold wpY_second
    refine py_chosen hp hA hB hW (fun K' fo' sp' pt2' hK1' hK' hsp => ?_)
    obtain rfl := gx_same hK hK'
    obtain ⟨⟨m0, hm0, hs0, hne0, hw0⟩, hle⟩ := hV
    have ne0 : nI m0 ≠ nI K' := fun t => hne0 ((nI_eq (by omega) (by omega)).mp t)
    refine py_best hW hsp (fun hno => absurd ⟨hs0, ne0⟩ (hno m0 hm0)) (fun m hm hc hmin => br_t (nI_pos' (by omega)) (py_sum hm ⟨congrArg nI ?_, px_rel hp hA hB hW hn⟩))
    have a1 := gx_ky_wt (hmin m0 hm0 ⟨hs0, ne0⟩)
    obtain ⟨e, f, b1, b2, b3, b4, b5⟩ := gx_snd hp hK1 hK m hm hc.1 (fun t => hc.2 (by rw [t]))
    have a2 := hle f (gx_lt10 hp b1) b1 b2 e b3 b4
    omega
end
section
/-! ===== narrowest, possible, certain ===== -/
section
variable {p : Nat} {A B W : Nat → Nat} {lt : Int32} {pt : Nat → Int32} {mt : Nat → Int64} {fo sp : Nat → Int32}
theorem py_n32 {post : Int32 → SY → Prop} {J : Int32 → (Nat → Int32) → (Nat → Int32) → (Nat → Int32) → (Nat → Int32) → (Nat → Int32) → (Nat → Int32) → (Nat → Int32) → Prop} {a b w : Nat}
    (hA : ∀ j, A j < 6) (hB : ∀ j, B j < 6) (hW : ∀ j, W j < 51) (hw : w < 51) (ha : a < 6) (hb : b < 6)
    (h1 : ∀ pt', gx_cn A B (gx_bs (gx_lm p W (w + 1))) a b → post (nI w) (ix_bf p, ix_nf A, ix_nf B, ix_nf W, fo, sp, pt'))
    (h0 : ∀ pt', ¬ gx_cn A B (gx_bs (gx_lm p W (w + 1))) a b → J (nI (w + 1)) (ix_bf p) (ix_nf A) (ix_nf B) (ix_nf W) fo sp pt') :
    ∀ n i, i ≤ 10 → 10 - i < n → wY_narrowest_32 post J (nI a) (nI b) (nI w) (ix_bf p) (ix_nf A) (ix_nf B) (ix_nf W) fo sp pt n (nI (gx_fl (fun e => p.testBit e && decide (W e < w + 1)) i)) (nI i) := by
  intro n
  induction n with
  | zero => intro i _ h; exact absurd h (Nat.not_lt_zero _)
  | succ n ih =>
    intro i hi hn
    by_cases z : i = 10
    · subst z
      refine br_t (nI_le (a := 10) (b := 10) (Nat.le_refl _) (by decide)) (py_join (m := gx_lm p W (w + 1)) hA hB (gx_lm_lt p W (w + 1)) (fun pt' q hP hq => ?_))
      have both : (pt' (nI a).toNatClampNeg = pt' (nI b).toNatClampNeg) ↔ gx_cn A B (gx_bs (gx_lm p W (w + 1))) a b := by
        rw [nI_clamp (n := a) (by omega), nI_clamp (n := b) (by omega), hP a ha, hP b hb, nI_eq (by have := (hq a ha).1; omega) (by have := (hq b hb).1; omega)]
        exact gx_lb_iff hq ha hb
      exact ⟨fun _ => And.intro (vp_in_nI ha (by decide)) (And.intro (vp_in_nI hb (by decide)) (br_c (fun t => h1 pt' (both.mp t)) (fun t => nm_r (nI_1 w) (h0 pt' (fun c => t (both.mpr c)))))), fun _ => And.intro (vp_in_nI ha (by decide)) (And.intro (vp_in_nI hb (by decide)) (br_c (fun t => h1 pt' (both.mp t)) (fun t => nm_r (nI_1 w) (h0 pt' (fun c => t (both.mpr c))))))⟩
    · have hi10 : i < 10 := by omega
      have hin : vp_in (nI i) 10 := vp_in_nI hi10 (by decide)
      have st : gx_fl (fun e => p.testBit e && decide (W e < w + 1)) (i + 1) = if (p.testBit i && decide (W i < w + 1)) = true then gx_fl (fun e => p.testBit e && decide (W e < w + 1)) i ||| 2 ^ i else gx_fl (fun e => p.testBit e && decide (W e < w + 1)) i := rfl
      have I := ih (i + 1) (by omega) (by omega)
      have wi := hW i
      refine br_f (nI_ge (b := 10) hi10 (by decide)) (And.intro hin ?_)
      rw [nI_clamp (by omega), ix_bf0]
      refine br_c (fun y => nm_r (e' := nI (gx_fl (fun e => p.testBit e && decide (W e < w + 1)) (i + 1))) ?_ (nm_r (nI_1 i) I)) (fun y => And.intro hin ?_)
      · rw [ix_orZ, st, if_neg (by rw [Bool.and_eq_true]; exact fun t => y t.1)]
      · show (nI w < nI (W i) → _) ∧ (¬ nI w < nI (W i) → _)
        rw [nI_ltI (by omega) (by omega)]
        refine br_c (fun t => nm_r (e' := nI (gx_fl (fun e => p.testBit e && decide (W e < w + 1)) (i + 1))) ?_ (nm_r (nI_1 i) I)) (fun t => nm_r (e' := nI (gx_fl (fun e => p.testBit e && decide (W e < w + 1)) (i + 1))) ?_ (nm_r (nI_1 i) I))
        · rw [ix_orZ, st, if_neg (by rw [Bool.and_eq_true, decide_eq_true_eq]; omega)]
        · rw [ix_set (by omega), st, if_pos (by rw [Bool.and_eq_true, decide_eq_true_eq]; exact ⟨Classical.byContradiction y, by omega⟩)]
          rfl
theorem py_n20 {post : Int32 → SY → Prop} {a b N : Nat} (hA : ∀ j, A j < 6) (hB : ∀ j, B j < 6) (hW : ∀ j, W j < 51) (ha : a < 6) (hb : b < 6) (hN : N ≤ 51)
    (hlo : ∀ w, w < N → ¬ gx_cn A B (gx_bs (gx_lm p W (w + 1))) a b) (hhi : N < 51 → gx_cn A B (gx_bs (gx_lm p W (N + 1))) a b)
    (h1 : N < 51 → ∀ pt', post (nI N) (ix_bf p, ix_nf A, ix_nf B, ix_nf W, fo, sp, pt')) (h0 : N = 51 → ∀ pt', post (-1) (ix_bf p, ix_nf A, ix_nf B, ix_nf W, fo, sp, pt')) :
    ∀ n w, w ≤ N → 51 - w < n → ∀ pt : Nat → Int32, wY_narrowest_20 post (nI a) (nI b) n (nI w) (ix_bf p) (ix_nf A) (ix_nf B) (ix_nf W) fo sp pt := by
  intro n
  induction n with
  | zero => intro w _ h; exact absurd h (Nat.not_lt_zero _)
  | succ n ih =>
    intro w hw hn pt
    by_cases z : w = 51
    · subst z
      exact br_t (nI_lt (a := 50) (b := 51) (by decide) (by decide)) (h0 (by omega) pt)
    · refine br_f (nI_nlt (a := 50) (b := w) (by omega) (by decide)) (Exists.intro 11 (py_n32 hA hB hW (by omega) ha hb (fun pt' c => ?_) (fun pt' c => ?_) 11 0 (by omega) (by omega)))
      · have e : w = N := by
          rcases Nat.lt_or_ge w N with t | t
          · exact absurd c (hlo w t)
          · omega
        subst e
        exact h1 (by omega) pt'
      · refine ih (w + 1) ?_ (by omega) pt'
        rcases Nat.lt_or_ge w N with t | t
        · exact t
        · have e : w = N := by omega
          subst e
          exact absurd (hhi (by omega)) c
theorem px_pos4 {post : Int32 → SX → Prop} (hp : p < 1024) (hA : ∀ j, A j < 6) (hB : ∀ j, B j < 6) (hW : ∀ j, W j < 51)
    (h : ∀ m lt' pt', m < 1024 → (∀ j, (gx_bs m j ↔ (gx_bs p j ∧ ¬ gx_cl A B (fun i => gx_bs p i ∧ W i < W j) j))) → post (nI m) (nI p, lt', ix_nf A, ix_nf B, ix_nf W, pt', mt)) :
    ∀ n i, i ≤ 10 → 10 - i < n → ∀ (m : Nat) (lt : Int32) (pt : Nat → Int32), m < 1024 → (∀ j, (gx_bs m j ↔ (j < i ∧ gx_bs p j ∧ ¬ gx_cl A B (fun x => gx_bs p x ∧ W x < W j) j))) →
      wX_possible_4 post n (nI m) (nI i) (nI p) lt (ix_nf A) (ix_nf B) (ix_nf W) pt mt := by
  intro n
  induction n with
  | zero => intro i _ h; exact absurd h (Nat.not_lt_zero _)
  | succ n ih =>
    intro i hi hn m lt pt hm hb
    by_cases z : i = 10
    · subst z
      exact br_t (nI_le (a := 10) (b := 10) (Nat.le_refl _) (by decide)) (h m lt pt hm (fun j => (hb j).trans ⟨fun t => t.2, fun t => ⟨gx_lt10 hp t.1, t⟩⟩))
    · have hi10 : i < 10 := by omega
      have hin : vp_in (nI i) 10 := vp_in_nI hi10 (by decide)
      have hcl : (nI i).toNatClampNeg = i := nI_clamp (by omega)
      have I := ih (i + 1) (by omega) (by omega)
      have skip : ¬ (gx_bs p i ∧ ¬ gx_cl A B (fun x => gx_bs p x ∧ W x < W i) i) → ∀ j, (gx_bs m j ↔ (j < i + 1 ∧ gx_bs p j ∧ ¬ gx_cl A B (fun x => gx_bs p x ∧ W x < W j) j)) := by
        intro c j
        rw [hb j]
        constructor
        · exact fun t => ⟨by omega, t.2⟩
        · intro t
          refine ⟨?_, t.2⟩
          have : j ≠ i := fun u => c (u ▸ t.2)
          omega
      refine br_f (nI_ge (b := 10) hi10 (by decide)) (px_has hp hi10 (fun y => br_f (by decide) (And.intro hin ?_)) (fun y => br_t rfl (nm_r (nI_1 i) (I m lt pt hm (skip (fun c => y c.1))))))
      rw [hcl]
      have wi := hW i
      refine px_lm (t := W i) hp hW (by omega) (px_takeAll hW hA hB (gx_lm_lt p W (W i)) (fun tk q pt' lt' _ _ hq hl hP => ?_))
      have eS : gx_bs (gx_lm p W (W i)) = fun x => gx_bs p x ∧ W x < W i := funext (fun x => propext (gx_lm_b hp))
      rw [eS] at hq
      have hiff : q (A i) = q (B i) ↔ gx_cl A B (fun x => gx_bs p x ∧ W x < W i) i := gx_lb_iff hq (hA i) (hB i)
      refine And.intro hin (And.intro hin (px_joined (x := A i) (y := B i) hP (fun v hv => (hq v hv).1) (hA i) (hB i) (fun hj => br_f (by decide) (nm_r (nI_1 i) (I m lt' pt' hm (skip (fun c => c.2 (hiff.mp hj)))))) (fun hj => br_t rfl (nm_r (ix_set (by omega)) (nm_r (nI_1 i) (I _ lt' pt' (gx_in_lt hm hi10) (fun j => ?_)))))))
      rw [gx_bs_in]
      show gx_bs m j ∨ j = i ↔ _
      rw [hb j]
      constructor
      · intro t
        rcases t with t | t
        · exact ⟨by omega, t.2⟩
        · subst t; exact ⟨by omega, y, fun c => hj (hiff.mpr c)⟩
      · intro t
        by_cases u : j = i
        · exact Or.inr u
        · exact Or.inl ⟨by omega, t.2⟩
theorem px_cer4 {post : Int32 → SX → Prop} (hp : p < 1024) (hA : ∀ j, A j < 6) (hB : ∀ j, B j < 6) (hW : ∀ j, W j < 51)
    (h : ∀ m lt' pt', m < 1024 → (∀ j, (gx_bs m j ↔ (gx_bs p j ∧ ¬ gx_cl A B (fun i => (gx_bs p i ∧ W i < W j + 1) ∧ i ≠ j) j))) → post (nI m) (nI p, lt', ix_nf A, ix_nf B, ix_nf W, pt', mt)) :
    ∀ n i, i ≤ 10 → 10 - i < n → ∀ (m : Nat) (lt : Int32) (pt : Nat → Int32), m < 1024 → (∀ j, (gx_bs m j ↔ (j < i ∧ gx_bs p j ∧ ¬ gx_cl A B (fun x => (gx_bs p x ∧ W x < W j + 1) ∧ x ≠ j) j))) →
      wX_certain_4 post n (nI m) (nI i) (nI p) lt (ix_nf A) (ix_nf B) (ix_nf W) pt mt := by
  intro n
  induction n with
  | zero => intro i _ h; exact absurd h (Nat.not_lt_zero _)
  | succ n ih =>
    intro i hi hn m lt pt hm hb
    by_cases z : i = 10
    · subst z
      exact br_t (nI_le (a := 10) (b := 10) (Nat.le_refl _) (by decide)) (h m lt pt hm (fun j => (hb j).trans ⟨fun t => t.2, fun t => ⟨gx_lt10 hp t.1, t⟩⟩))
    · have hi10 : i < 10 := by omega
      have hin : vp_in (nI i) 10 := vp_in_nI hi10 (by decide)
      have hcl : (nI i).toNatClampNeg = i := nI_clamp (by omega)
      have I := ih (i + 1) (by omega) (by omega)
      have skip : ¬ (gx_bs p i ∧ ¬ gx_cl A B (fun x => (gx_bs p x ∧ W x < W i + 1) ∧ x ≠ i) i) → ∀ j, (gx_bs m j ↔ (j < i + 1 ∧ gx_bs p j ∧ ¬ gx_cl A B (fun x => (gx_bs p x ∧ W x < W j + 1) ∧ x ≠ j) j)) := by
        intro c j
        rw [hb j]
        constructor
        · exact fun t => ⟨by omega, t.2⟩
        · intro t
          refine ⟨?_, t.2⟩
          have : j ≠ i := fun u => c (u ▸ t.2)
          omega
      refine br_f (nI_ge (b := 10) hi10 (by decide)) (px_has hp hi10 (fun y => br_f (by decide) (And.intro hin ?_)) (fun y => br_t rfl (nm_r (nI_1 i) (I m lt pt hm (skip (fun c => y c.1))))))
      have wi := hW i
      have ew : ix_nf W (nI i).toNatClampNeg + 1 = nI (W i + 1) := by rw [hcl]; exact nI_1 (W i)
      rw [ew, hcl]
      refine px_lm (t := W i + 1) hp hW (by omega) (nm_r (ix_clr (gx_lm_lt p W (W i + 1)) (by omega)) (px_takeAll hW hA hB (gx_de_lt (gx_lm_lt p W (W i + 1))) (fun tk q pt' lt' _ _ hq hl hP => ?_)))
      have eS : gx_bs (gx_de (gx_lm p W (W i + 1)) i) = fun x => (gx_bs p x ∧ W x < W i + 1) ∧ x ≠ i := by
        rw [gx_bs_de (gx_lm_lt p W (W i + 1))]
        funext x
        rw [propext (gx_lm_b hp)]
      rw [eS] at hq
      have hiff : q (A i) = q (B i) ↔ gx_cl A B (fun x => (gx_bs p x ∧ W x < W i + 1) ∧ x ≠ i) i := gx_lb_iff hq (hA i) (hB i)
      refine And.intro hin (And.intro hin (px_joined (x := A i) (y := B i) hP (fun v hv => (hq v hv).1) (hA i) (hB i) (fun hj => br_f (by decide) (nm_r (nI_1 i) (I m lt' pt' hm (skip (fun c => c.2 (hiff.mp hj)))))) (fun hj => br_t rfl (nm_r (ix_set (by omega)) (nm_r (nI_1 i) (I _ lt' pt' (gx_in_lt hm hi10) (fun j => ?_)))))))
      rw [gx_bs_in]
      show gx_bs m j ∨ j = i ↔ _
      rw [hb j]
      constructor
      · intro t
        rcases t with t | t
        · exact ⟨by omega, t.2⟩
        · subst t; exact ⟨by omega, y, fun c => hj (hiff.mpr c)⟩
      · intro t
        by_cases u : j = i
        · exact Or.inr u
        · exact Or.inl ⟨by omega, t.2⟩
theorem py_pos9 {post : Int32 → SY → Prop} {L : Nat} {Q : Nat → Prop} {th aA aB : Nat → Int32} (hW : ∀ j, W j < 51) (hL : L ≤ 500) (hsp : ∀ i, i < 1024 → sp i = ix_B (Q i))
    (h : ∀ m, m < 1024 → (∀ j, (gx_bs m j ↔ ∃ x, x < 1024 ∧ (Q x ∧ gx_wt W x = L) ∧ gx_bs x j)) → post (nI m) (th, aA, aB, ix_nf W, fo, sp, pt)) :
    ∀ n i, i ≤ 1024 → 1024 - i < n → ∀ m, m < 1024 → (∀ j, (gx_bs m j ↔ ∃ x, x < i ∧ (Q x ∧ gx_wt W x = L) ∧ gx_bs x j)) → wY_possible_9 post (nI L) th aA aB (ix_nf W) fo sp pt n (nI m) (nI i) := by
  intro n
  induction n with
  | zero => intro i _ h; exact absurd h (Nat.not_lt_zero _)
  | succ n ih =>
    intro i hi hn m hm hb
    by_cases z : i = 1024
    · subst z
      exact br_t (nI_le (a := 1024) (b := 1024) (Nat.le_refl _) (by decide)) (h m hm hb)
    · have hi' : i < 1024 := by omega
      have hsi : sp (nI i).toNatClampNeg = 0 ↔ ¬ Q i := by rw [nI_clamp (by omega), hsp i hi', ix_B0]
      have I := ih (i + 1) (by omega) (by omega)
      have wi := gx_wt_le hW i
      have skip : ¬ (Q i ∧ gx_wt W i = L) → ∀ j, (gx_bs m j ↔ ∃ x, x < i + 1 ∧ (Q x ∧ gx_wt W x = L) ∧ gx_bs x j) := by
        intro c j
        rw [hb j]
        constructor
        · intro t
          obtain ⟨x, hx, t⟩ := t
          exact ⟨x, by omega, t⟩
        · intro t
          obtain ⟨x, hx, t⟩ := t
          have : x ≠ i := fun u => c (u ▸ t.1)
          exact ⟨x, by omega, t⟩
      refine br_f (nI_ge (b := 1024) hi' (by decide)) (And.intro (vp_in_nI hi' (by decide)) (br_c (fun y => nm_r (nI_1 i) (I m hm (skip (fun c => hsi.mp y c.1)))) (fun y => py_sum hi' ?_)))
      rw [nI_eq (by omega) (by omega)]
      refine br_c (fun u => nm_r (ix_or m i) (nm_r (nI_1 i) (I _ (Nat.or_lt_two_pow (n := 10) hm hi') (fun j => ?_)))) (fun u => nm_r (nI_1 i) (I m hm (skip (fun c => u c.2))))
      rw [gx_bs_or, hb j]
      constructor
      · intro t
        rcases t with ⟨x, hx, t⟩ | t
        · exact ⟨x, by omega, t⟩
        · exact ⟨i, by omega, ⟨Classical.byContradiction (fun c => y (hsi.mpr c)), u⟩, t⟩
      · intro t
        obtain ⟨x, hx, t⟩ := t
        by_cases w : x = i
        · exact Or.inr (w ▸ t.2)
        · exact Or.inl ⟨x, by omega, t⟩
theorem py_cer12 {post : Int32 → SY → Prop} {L : Nat} {Q : Nat → Prop} {th aA aB : Nat → Int32} (hW : ∀ j, W j < 51) (hL : L ≤ 500) (hsp : ∀ i, i < 1024 → sp i = ix_B (Q i))
    (h : ∀ m, m < 1024 → (∀ j, (gx_bs m j ↔ (gx_bs p j ∧ ∀ x, x < 1024 → (Q x ∧ gx_wt W x = L) → gx_bs x j))) → post (nI m) (th, aA, aB, ix_nf W, fo, sp, pt)) :
    ∀ n i, i ≤ 1024 → 1024 - i < n → ∀ m, m < 1024 → (∀ j, (gx_bs m j ↔ (gx_bs p j ∧ ∀ x, x < i → (Q x ∧ gx_wt W x = L) → gx_bs x j))) → wY_certain_12 post (nI L) th aA aB (ix_nf W) fo sp pt n (nI m) (nI i) := by
  intro n
  induction n with
  | zero => intro i _ h; exact absurd h (Nat.not_lt_zero _)
  | succ n ih =>
    intro i hi hn m hm hb
    by_cases z : i = 1024
    · subst z
      exact br_t (nI_le (a := 1024) (b := 1024) (Nat.le_refl _) (by decide)) (h m hm hb)
    · have hi' : i < 1024 := by omega
      have hsi : sp (nI i).toNatClampNeg = 0 ↔ ¬ Q i := by rw [nI_clamp (by omega), hsp i hi', ix_B0]
      have I := ih (i + 1) (by omega) (by omega)
      have wi := gx_wt_le hW i
      have skip : ¬ (Q i ∧ gx_wt W i = L) → ∀ j, (gx_bs m j ↔ (gx_bs p j ∧ ∀ x, x < i + 1 → (Q x ∧ gx_wt W x = L) → gx_bs x j)) := by
        intro c j
        rw [hb j]
        constructor
        · intro t
          refine ⟨t.1, fun x hx hq => ?_⟩
          have : x ≠ i := fun u => c (u ▸ hq)
          exact t.2 x (by omega) hq
        · exact fun t => ⟨t.1, fun x hx hq => t.2 x (by omega) hq⟩
      refine br_f (nI_ge (b := 1024) hi' (by decide)) (And.intro (vp_in_nI hi' (by decide)) (br_c (fun y => nm_r (nI_1 i) (I m hm (skip (fun c => hsi.mp y c.1)))) (fun y => py_sum hi' ?_)))
      rw [nI_eq (by omega) (by omega)]
      refine br_c (fun u => nm_r (nx_and m i) (nm_r (nI_1 i) (I _ (Nat.lt_of_le_of_lt Nat.and_le_left hm) (fun j => ?_)))) (fun u => nm_r (nI_1 i) (I m hm (skip (fun c => u c.2))))
      rw [gx_bs_and, hb j]
      constructor
      · intro t
        refine ⟨t.1.1, fun x hx hq => ?_⟩
        by_cases w : x = i
        · exact w ▸ t.2
        · exact t.1.2 x (by omega) hq
      · intro t
        exact ⟨⟨t.1, fun x hx hq => t.2 x (by omega) hq⟩, t.2 i (by omega) ⟨Classical.byContradiction (fun c => y (hsi.mpr c)), u⟩⟩
end
theorem i_vc_narrowest {k : Nat} {u : SX} {v : SY} (I : i_Rel k u v) (hk : k + 4 ≤ 2048) (v1 : Int32) (v2 : Int32) : wpX_narrowest (fun r u' => wpY_narrowest (fun r' v' => r' = r ∧ i_Rel (k + 4) u' v') v v1 v2) u v1 v2 := by
  obtain ⟨p, A, B, W, lt, pt, mt, fo, sp, pt2, rfl, rfl, hp, hA, hB, hW, hn⟩ := I
  unfold wpX_narrowest
  refine px_vx (fun a ha ea => br_f (by decide) (px_vx (fun b hb eb => br_f (by decide) ?_) (fun hx => br_t rfl ?_))) (fun hx => br_t rfl ?_)
  · subst ea eb
    have lmS : ∀ t, gx_bs (gx_lm p W t) = fun x => gx_bs p x ∧ W x < t := fun t => funext (fun x => propext (gx_lm_b hp))
    refine px_takeTo hW hA hB hp ha hb (fun r q pt' lt' hP hq6 hiff hL => px_joined hP hq6 ha hb (fun hj => br_f (by decide) ?_) (fun hj => br_t rfl ?_))
    · rcases hL hj with ⟨hab, hlt⟩ | ⟨l, hl, hL1⟩
      · subst hlt hab
        refine br_f (by decide) ?_
        unfold wpY_narrowest
        refine py_vx ha (br_f (by decide) (py_vx ha (br_f (by decide) (Exists.intro 52 (py_n20 (N := 0) hA hB hW ha ha (by omega) (fun w hw => absurd hw (Nat.not_lt_zero _)) (fun _ => gx_rf) (fun _ pt'' => ⟨rfl, px_rel hp hA hB hW hn⟩) (fun h => absurd h (by decide)) 52 0 (by omega) (by omega) pt2)))))
      · subst hl
        have l10 := gx_lt10 hp hL1.1
        have wl := hW l
        refine br_t (nI_pos' (by omega)) (And.intro (vp_in_nI l10 (by decide)) ?_)
        rw [nI_clamp (n := l) (by omega)]
        unfold wpY_narrowest
        refine py_vx ha (br_f (by decide) (py_vx hb (br_f (by decide) (Exists.intro 52 (py_n20 (N := W l) hA hB hW ha hb (by omega) (fun w hw c => hL1.2.2 ?_) (fun _ => ?_) (fun _ pt'' => ⟨rfl, px_rel hp hA hB hW hn⟩) (fun h => absurd h (by omega)) 52 0 (by omega) (by omega) pt2)))))
        · rw [lmS] at c
          refine gx_mono (fun j hj => ⟨hj.1, ?_⟩) c
          have j10 := gx_lt10 hp hj.1
          have := hj.2
          unfold gx_rk
          omega
        · rw [lmS]
          refine gx_mono (fun j hj => ⟨hj.1, ?_⟩) hL1.2.1
          have := hj.2
          unfold gx_rk at this
          omega
    · unfold wpY_narrowest
      refine py_vx ha (br_f (by decide) (py_vx hb (br_f (by decide) (Exists.intro 52 (py_n20 (N := 51) hA hB hW ha hb (by omega) (fun w hw c => hj (hiff.mpr ?_)) (fun h => absurd h (by omega)) (fun h => absurd h (by omega)) (fun _ pt'' => ⟨rfl, px_rel hp hA hB hW hn⟩) 52 0 (by omega) (by omega) pt2)))))
      rw [lmS] at c
      exact gx_mono (fun j hj => hj.1) c
  · subst ea
    unfold wpY_narrowest
    exact py_vx ha (br_f (by decide) (py_vxN hx (br_t rfl ⟨rfl, px_rel hp hA hB hW hn⟩)))
  · unfold wpY_narrowest
    exact py_vxN hx (br_t rfl ⟨rfl, px_rel hp hA hB hW hn⟩)
theorem i_vc_possible {k : Nat} {u : SX} {v : SY} (I : i_Rel k u v) (hk : k + 4 ≤ 2048) : wpX_possible (fun r u' => wpY_possible (fun r' v' => r' = r ∧ i_Rel (k + 4) u' v') v) u := by
  obtain ⟨p, A, B, W, lt, pt, mt, fo, sp, pt2, rfl, rfl, hp, hA, hB, hW, hn⟩ := I
  refine Exists.intro 11 (px_pos4 hp hA hB hW (fun m lt' pt' hm hb => ?_) 11 0 (by omega) (by omega) 0 lt pt (by decide) (fun j => ⟨fun t => absurd t (gx_bs0 j), fun t => absurd t.1 (Nat.not_lt_zero _)⟩))
  unfold wpY_possible
  refine py_total hp hA hB hW (fun K fo' sp' pt2' h1 h2 h3 => Exists.intro 1025 (py_pos9 hW (gx_wt_le hW K) h3 (fun m' hm' hb' => ⟨congrArg nI (gx_bs_x (fun j => ?_)), px_rel hp hA hB hW hn⟩) 1025 0 (by omega) (by omega) 0 (by decide) (fun j => ⟨fun t => absurd t (gx_bs0 j), fun t => by obtain ⟨x, hx, _⟩ := t; exact absurd hx (Nat.not_lt_zero _)⟩)))
  rw [hb' j, hb j]
  constructor
  · intro t
    obtain ⟨x, hx, ⟨hs, hw⟩, hj⟩ := t
    have hpj := hs.1 j hj
    exact ⟨hpj, (gx_poss hp hpj h1 h2).mp ⟨x, hx, hs, hw, hj⟩⟩
  · intro t
    obtain ⟨x, hx, hs, hw, hj⟩ := (gx_poss hp t.1 h1 h2).mpr t.2
    exact ⟨x, hx, ⟨hs, hw⟩, hj⟩
theorem i_vc_certain {k : Nat} {u : SX} {v : SY} (I : i_Rel k u v) (hk : k + 4 ≤ 2048) : wpX_certain (fun r u' => wpY_certain (fun r' v' => r' = r ∧ i_Rel (k + 4) u' v') v) u := by
  obtain ⟨p, A, B, W, lt, pt, mt, fo, sp, pt2, rfl, rfl, hp, hA, hB, hW, hn⟩ := I
  refine Exists.intro 11 (px_cer4 hp hA hB hW (fun m lt' pt' hm hb => ?_) 11 0 (by omega) (by omega) 0 lt pt (by decide) (fun j => ⟨fun t => absurd t (gx_bs0 j), fun t => absurd t.1 (Nat.not_lt_zero _)⟩))
  unfold wpY_certain
  refine py_total hp hA hB hW (fun K fo' sp' pt2' h1 h2 h3 => py_ed hp (Exists.intro 1025 (py_cer12 (p := p) hW (gx_wt_le hW K) h3 (fun m' hm' hb' => ⟨congrArg nI (gx_bs_x (fun j => ?_)), px_rel hp hA hB hW hn⟩) 1025 0 (by omega) (by omega) p hp (fun j => ⟨fun t => ⟨t, fun x hx => absurd hx (Nat.not_lt_zero _)⟩, fun t => t.1⟩))))
  rw [hb' j, hb j]
  constructor
  · intro t
    exact ⟨t.1, (gx_cert hp t.1 h1 h2).mp (fun x hx hs hw => t.2 x hx ⟨hs, hw⟩)⟩
  · intro t
    exact ⟨t.1, fun x hx hq => (gx_cert hp t.1 h1 h2).mpr t.2 x hx hq.1 hq.2⟩
end
