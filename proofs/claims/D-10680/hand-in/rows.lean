section
/-! ===== CellNetsLaw: the pure picture ===== -/
theorem cn_nlt {a b : Int32} : ¬ a < b ↔ b ≤ a := by
  rw [Int32.lt_iff_toInt_lt, Int32.le_iff_toInt_le]
  omega
theorem cn_nle {a b : Int32} : ¬ a ≤ b ↔ b < a := by
  rw [Int32.lt_iff_toInt_lt, Int32.le_iff_toInt_le]
  omega
/-- the kind is one of the three -/
def cn_in (k : Int32) : Prop := ¬ k < 0 ∧ ¬ 2 < k
/-- p names a port that may be joined -/
def cn_pin (k p : Int32) : Prop := (¬ p ≤ 29 ∧ p < 34) ∨ (cn_in k ∧ (p = 0 ∨ (¬ 2 ≤ k ∧ (p = 1 ∨ p = 2))))
/-- the join puts a wire -/
def cn_wr (k p q : Int32) : Prop := cn_pin k p ∧ cn_pin k q ∧ ¬ p = q
/-- at port x the wire's other end is t (-1: none) -/
def cn_M (k p q x t : Int32) : Prop := (cn_wr k p q ∧ x = p ∧ t = q) ∨ (cn_wr k p q ∧ ¬ x = p ∧ x = q ∧ t = p) ∨ (¬ (cn_wr k p q ∧ (x = p ∨ x = q)) ∧ t = -1)
/-- e names an end -/
def cn_end (e : Int32) : Prop := ¬ e < 0 ∧ ¬ 3 < e
/-- a port's name in the copy -/
def cn_cp (x : Int32) : Int32 := if x = -1 then -1 else if 30 ≤ x then (x - 30) + 1470 else x
def cn_ix (j : Nat) : Nat := if j < 30 then j else j + 1440
/-- count and the kinds behind cell(k) -/
def cn_C (k c : Int32) (a1 : Nat → Int32) : Prop := (cn_in k ∧ c = 1 ∧ a1 0 = k) ∨ (¬ cn_in k ∧ c = 0)
/-- a boolean answers P -/
def cn_B (P : Prop) (x : Int32) : Prop := (x = 1 ∧ P) ∨ (x = 0 ∧ ¬ P)
theorem cn_bb {P A B : Prop} {x : Int32} (h : cn_B P x) (f : ¬ P → A) (g : P → B) : (x = 0 → A) ∧ (¬ x = 0 → B) := by
  rcases h with ⟨rfl, h⟩ | ⟨rfl, h⟩
  · exact br_f (by decide) (g h)
  · exact br_t rfl (f h)
theorem cn_inN {k : Int32} (h : cn_in k) : ∃ m : Nat, m < 3 ∧ k = nI m := by
  obtain ⟨m, hm, e⟩ := nI_of2 (x := k) (M := 2) (n := 2) (by decide) h.1 (cn_nlt.mp h.2)
  exact ⟨m, by omega, e⟩
theorem cn_pinN {k p : Int32} (h : cn_pin k p) : ∃ n : Nat, p = nI n ∧ ((30 ≤ n ∧ n < 34) ∨ (n < 3 ∧ cn_in k ∧ (k = 2 → n = 0))) := by
  rcases h with ⟨h1, h2⟩ | ⟨h1, h2⟩
  · have h1' := cn_nle.mp h1
    have h0 : ¬ p < 0 := by
      rw [Int32.lt_iff_toInt_lt] at *
      have e0 : (0 : Int32).toInt = 0 := by decide
      have e1 : (29 : Int32).toInt = 29 := by decide
      omega
    obtain ⟨n, hn, rfl⟩ := nI_of h0
    have a : 29 < n := (nI_ltI (a := 29) (by omega) hn).mp h1'
    have b : n < 34 := (nI_ltI (b := 34) hn (by omega)).mp h2
    exact ⟨n, rfl, Or.inl ⟨by omega, b⟩⟩
  · rcases h2 with rfl | ⟨h2, rfl | rfl⟩
    · exact ⟨0, rfl, Or.inr ⟨by omega, h1, fun _ => rfl⟩⟩
    · exact ⟨1, rfl, Or.inr ⟨by omega, h1, fun e => absurd (by rw [e]; decide) h2⟩⟩
    · exact ⟨2, rfl, Or.inr ⟨by omega, h1, fun e => absurd (by rw [e]; decide) h2⟩⟩
theorem cn_pinE {k : Int32} {n : Nat} (h : 30 ≤ n) (h2 : n < 34) : cn_pin k (nI n) :=
  Or.inl ⟨nI_ge (b := n) (a := 29) (by omega) (by omega), nI_lt (b := 34) h2 (by omega)⟩
theorem cn_pinC {k : Int32} {n : Nat} (h : n < 3) (hk : cn_in k) (h2 : k = 2 → n = 0) : cn_pin k (nI n) := by
  refine Or.inr ⟨hk, ?_⟩
  obtain ⟨m, hm, rfl⟩ := cn_inN hk
  by_cases e : n = 0
  · subst e
    exact Or.inl rfl
  · have hm2 : ¬ m = 2 := fun z => e (h2 (by rw [z]; rfl))
    refine Or.inr ⟨nI_ge (b := 2) (by omega) (by omega), ?_⟩
    rcases (show n = 1 ∨ n = 2 by omega) with rfl | rfl
    · exact Or.inl rfl
    · exact Or.inr rfl
theorem cn_pinX {k : Int32} {n : Nat} (hn : n < 34) (h : 3 ≤ n ∧ n < 30 ∨ (n < 3 ∧ ¬ cn_in k) ∨ (n < 3 ∧ k = 2 ∧ n ≠ 0)) : ¬ cn_pin k (nI n) := by
  intro hp
  obtain ⟨m, e, hm⟩ := cn_pinN hp
  have hm34 : m < 34 := by omega
  have e' : n = m := (nI_eq (by omega) (by omega)).mp e
  subst e'
  rcases hm with ⟨h1, h2⟩ | ⟨h1, h2, h3⟩
  · omega
  · rcases h with h | ⟨_, h⟩ | ⟨_, h, h'⟩
    · omega
    · exact h h2
    · exact h' (h3 h)
/-- what the other end of a wire can be -/
theorem cn_tv {k p q x t : Int32} (h : cn_M k p q x t) : t = -1 ∨ (∃ n : Nat, n < 3 ∧ t = nI n ∧ cn_in k ∧ (k = 2 → n = 0)) ∨ (∃ n : Nat, n < 4 ∧ t = nI (30 + n)) := by
  have key : ∀ y : Int32, cn_pin k y → y = -1 ∨ (∃ n : Nat, n < 3 ∧ y = nI n ∧ cn_in k ∧ (k = 2 → n = 0)) ∨ (∃ n : Nat, n < 4 ∧ y = nI (30 + n)) := by
    intro y hy
    obtain ⟨n, rfl, h | h⟩ := cn_pinN hy
    · refine Or.inr (Or.inr ⟨n - 30, by omega, ?_⟩)
      rw [show 30 + (n - 30) = n by omega]
    · exact Or.inr (Or.inl ⟨n, h.1, rfl, h.2⟩)
  rcases h with ⟨w, _, rfl⟩ | ⟨w, _, _, rfl⟩ | ⟨_, h⟩
  · exact key _ w.2.1
  · exact key _ w.1
  · exact Or.inl h
theorem cn_Mu {k p q x t t' : Int32} (h : cn_M k p q x t) (h' : cn_M k p q x t') : t = t' := by
  rcases h with ⟨w, a, rfl⟩ | ⟨w, a, b, rfl⟩ | ⟨w, rfl⟩ <;> rcases h' with ⟨w', a', rfl⟩ | ⟨w', a', b', rfl⟩ | ⟨w', rfl⟩
  · rfl
  · exact absurd a a'
  · exact absurd ⟨w, Or.inl a⟩ w'
  · exact absurd a' a
  · rfl
  · exact absurd ⟨w, Or.inr b⟩ w'
  · exact absurd ⟨w', Or.inl a'⟩ w
  · exact absurd ⟨w', Or.inr b'⟩ w
  · rfl
theorem cn_cp1 : cn_cp (-1) = -1 := by decide
theorem cn_cpC : ∀ n, n < 3 → cn_cp (nI n) = nI n := by decide +kernel
theorem cn_cpE : ∀ n, n < 4 → cn_cp (nI (30 + n)) = nI (1470 + n) := by decide +kernel
theorem cn_cpI : ∀ n, n < 34 → cn_cp (nI n) = nI (cn_ix n) := by decide +kernel
theorem cn_ixl {n : Nat} (h : n < 34) : cn_ix n < 1474 := by
  unfold cn_ix
  split <;> omega
theorem cn_ixi {n m : Nat} (hn : n < 34) (hm : m < 34) (h : cn_ix n = cn_ix m) : n = m := by
  unfold cn_ix at h
  split at h <;> split at h <;> omega
/-- an end wired to a cell: each port of the cell has an end, or nothing, behind it, and only its own port has an end -/
theorem cn_lone {k p q s : Int32} {n i j : Nat} (hn : n < 4) (hi : i < 3) (hj : j < 3) (h : cn_M k p q (nI (30 + n)) (nI i)) (hs : cn_M k p q (nI j) s) : (j = i ∧ s = nI (30 + n)) ∨ (j ≠ i ∧ s = -1) := by
  have ne : ∀ {a b : Nat}, a < 40 → b < 40 → nI a = nI b → a = b := fun ha hb e => (nI_eq (by omega) (by omega)).mp e
  rcases h with ⟨w, a, b⟩ | ⟨w, a, b, c⟩ | ⟨w, b⟩
  · subst a b
    rcases hs with ⟨_, a', e⟩ | ⟨_, a', b', e⟩ | ⟨w', e⟩
    · exact absurd (ne (by omega) (by omega) a') (by omega)
    · exact Or.inl ⟨ne (by omega) (by omega) b', e⟩
    · exact Or.inr ⟨fun z => w' ⟨w, Or.inr (by rw [z])⟩, e⟩
  · subst b c
    rcases hs with ⟨_, a', e⟩ | ⟨_, a', b', e⟩ | ⟨w', e⟩
    · exact Or.inl ⟨ne (by omega) (by omega) a', e⟩
    · exact absurd (ne (by omega) (by omega) b') (by omega)
    · exact Or.inr ⟨fun z => w' ⟨w, Or.inl (by rw [z])⟩, e⟩
  · have : ∀ m, m < 3 → ¬ nI m = -1 := by decide +kernel
    exact absurd b (this i hi)
/-- what the walk owes -/
def cn_due (k p q e tn r : Int32) : Prop := (¬ (cn_end e ∧ ¬ tn < 0 ∧ tn ≤ 4095) → r = -1) ∧ (cn_end e ∧ ¬ tn < 0 ∧ tn ≤ 4095 → ∀ t, cn_M k p q (30 + e) t → (¬ 0 ≤ t → r = 9) ∧ (0 ≤ t → ¬ t ≤ 29 → r = t - 20) ∧ (0 ≤ t → t ≤ 29 → tn = 0 ∨ k = 2 → r = 3 * k + t) ∧ (0 ≤ t → t ≤ 29 → ¬ tn = 0 → ¬ k = 2 → r = 9))
/-- what reach owes -/
def cn_rch (k p q e r : Int32) : Prop := (¬ cn_end e → r = -1) ∧ (cn_end e → ∀ t, cn_M k p q (30 + e) t → (¬ t < 0 ∧ ¬ 3 ≤ t → r = 1) ∧ (¬ (¬ t < 0 ∧ ¬ 3 ≤ t) → r = 0))
/-- what cut owes -/
def cn_cutR (k p q r : Int32) : Prop := (¬ cn_pin k q → r = -1) ∧ (cn_pin k q → ¬ cn_wr k p q → r = -4) ∧ (cn_wr k p q → r = p)
/-- the run copy's wires -/
def cn_R (k p q : Int32) (a5 : Nat → Int32) : Prop := (∀ j, j < 3 → ∃ t, cn_M k p q (nI j) t ∧ a5 j = cn_cp t) ∧ (∀ n, n < 4 → ∃ t, cn_M k p q (nI (30 + n)) t ∧ a5 (1470 + n) = cn_cp t)
theorem cn_fill {s : Nat → Int32} {v : Int32} {i k : Nat} (hk : k = i) (h : ∀ j, j < i → s j = v) : ∀ j, j < i + 1 → upd s k v j = v := by
  intro j hj
  rw [hk]
  by_cases e : j = i
  · rw [e, pk_us]
  · rw [pk_un e]
    exact h j (by omega)
end
section
/-! ===== putting the net together: new, cell, badPort, join ===== -/
theorem cn_init {post : St2 → Prop} {mc ms : Nat} (hc : 8 ≤ mc) (hs : 4478 ≤ ms)
    (H : ∀ a2 : Nat → Int32, (∀ j, j < 34 → a2 j = -1) → post (0, 0, 0, 0, 0, 0, 0, (fun _ => 0), a2, (fun _ => 0), (fun _ => 0), (fun _ => 0), (fun _ => 0), (fun _ => 0), (fun _ => 0))) :
    wpX_init post mc ms (0, 0, 0, 0, 0, 0, 0) := by
  unfold wpX_init
  dsimp only
  refine ⟨by omega, by omega, by omega, by omega, by omega, by omega, by omega, by omega, by omega, by omega, by omega, by omega, by omega, by omega, hc, hs, ?_⟩
  exact pk_loop (fun n i s => wX_init_76 post mc ms 8 4478 0 0 0 0 0 0 0 n (nI i) (fun _ => 0) s (fun _ => 0) (fun _ => 0) (fun _ => 0) (fun _ => 0) (fun _ => 0) (fun _ => 0))
    (fun i s => ∀ j, j < i → s j = -1) 34 0 (fun _ => 0) (by omega) (fun j hj => absurd hj (by omega))
    (fun n s h => pk_le 34 34 (fun _ => H s h) (fun z => absurd z (by omega)))
    (fun n i s hi h hw => pk_le 34 i (fun z => absurd z (by omega)) (fun _ => ⟨pk_in i 34 hi, nm_e (nm_r (nI_1 i) (hw _ (cn_fill (nI_clamp (by omega)) h)))⟩))
theorem cn_cell {post : Int32 → St2 → Prop} {k : Int32} {a1 a2 a3 a4 a5 a6 a7 a8 : Nat → Int32}
    (H : ∀ (r c : Int32) (b1 : Nat → Int32), cn_C k c b1 → (cn_in k → r = 0) → (¬ cn_in k → r = -1) → post r (c, 0, 0, 0, 0, 0, 0, b1, a2, a3, a4, a5, a6, a7, a8)) :
    wpX_cell post (0, 0, 0, 0, 0, 0, 0, a1, a2, a3, a4, a5, a6, a7, a8) k := by
  unfold wpX_cell
  dsimp only
  refine br_c (fun h => ?_) (fun h => br_c (fun h2 => br_f (by decide) ⟨pk_in 0 10 (by omega), nm_e (nm_e ?_)⟩) (fun h2 => ?_))
  · have hn : ¬ cn_in k := fun z => z.1 h
    exact H (-1) 0 a1 (Or.inr ⟨hn, rfl⟩) (fun z => absurd z hn) (fun _ => rfl)
  · have hi : cn_in k := ⟨h, cn_nlt.mpr h2⟩
    exact H _ _ _ (Or.inl ⟨hi, by decide, pk_us⟩) (fun _ => by decide) (fun z => absurd hi z)
  · have hn : ¬ cn_in k := fun z => h2 (cn_nlt.mp z.2)
    exact H (-1) 0 a1 (Or.inr ⟨hn, rfl⟩) (fun z => absurd z hn) (fun _ => rfl)
theorem cn_badPort {post : Int32 → Prop} {k p c f1 f2 f3 f4 f5 f6 : Int32} {a1 a2 a3 a4 a5 a6 a7 a8 : Nat → Int32} (hc : cn_C k c a1) (h0 : cn_pin k p → post 0) (h1 : ¬ cn_pin k p → post 1) :
    wpX_badPort post (c, f1, f2, f3, f4, f5, f6, a1, a2, a3, a4, a5, a6, a7, a8) p := by
  unfold wpX_badPort
  dsimp only
  have out : p < 0 ∨ nI 34 ≤ p → ¬ cn_pin k p := by
    intro h hp
    obtain ⟨n, rfl, hn⟩ := cn_pinN hp
    have hn34 : n < 34 := by omega
    rcases h with h | h
    · exact nI_pos (by omega) h
    · exact nI_ge hn34 (by omega) h
  rcases pk_ix p (n := 34) (by omega) with h | h | ⟨j, hj, rfl⟩
  · exact br_t h (h1 (out (Or.inl h)))
  · have e : ¬ p < 0 ∧ ¬ p ≤ 33 := by
      rw [Int32.le_iff_toInt_le, nI_toInt (by omega)] at h
      rw [Int32.lt_iff_toInt_lt, Int32.le_iff_toInt_le]
      have e0 : (0 : Int32).toInt = 0 := by decide
      have e1 : (33 : Int32).toInt = 33 := by decide
      omega
    exact br_f e.1 (br_f e.2 (h1 (out (Or.inr h))))
  · have ed : nI j / 3 = nI (j / 3) := pk_div (d := 3) (by omega) (by omega) (by omega)
    have er : nI j - nI j / 3 * 3 = nI (j % 3) := pk_rem (d := 3) (by omega) (by omega) (by omega)
    refine br_f (nI_pos (by omega)) (br_t (nI_le (b := 33) (by omega) (by omega)) (pk_lt j 30 (fun hj3 => ⟨by decide, ?_⟩) (fun hj3 => h0 (cn_pinE hj3 hj))))
    rw [er, ed]
    rcases hc with ⟨hk, rfl, ha⟩ | ⟨hk, rfl⟩
    · refine pk_le 1 (j / 3) (fun z => h1 (cn_pinX hj (Or.inl ⟨by omega, hj3⟩))) (fun z => ⟨by decide, pk_in (j / 3) 10 (by omega), ?_⟩)
      rw [nI_clamp (by omega), show j / 3 = 0 by omega, ha]
      refine br_c (fun e2 => ⟨by decide, pk_le (j % 3) 0 (fun y => h0 (cn_pinC (by omega) hk (fun _ => by omega))) (fun y => h1 (cn_pinX hj (Or.inr (Or.inr ⟨by omega, e2, by omega⟩))))⟩) (fun e2 => h0 (cn_pinC (by omega) hk (fun z => absurd z e2)))
    · refine br_t (nI_le (a := 0) (by omega) (by omega)) (h1 (cn_pinX hj ?_))
      by_cases z : j < 3
      · exact Or.inr (Or.inl ⟨z, hk⟩)
      · exact Or.inl ⟨by omega, hj3⟩
theorem cn_join {post : Int32 → St2 → Prop} {k p q c f2 f3 f4 f5 f6 : Int32} {a1 a2 a3 a4 a5 a6 a7 a8 : Nat → Int32} (hc : cn_C k c a1) (h2 : ∀ j, j < 34 → a2 j = -1)
    (H : ∀ (r : Int32) (b2 : Nat → Int32), (cn_wr k p q → r = 0) → (¬ cn_wr k p q → r = -1) → (∀ j, j < 34 → cn_M k p q (nI j) (b2 j)) → post r (c, 0, f2, f3, f4, f5, f6, a1, b2, a3, a4, a5, a6, a7, a8)) :
    wpX_join post (c, 0, f2, f3, f4, f5, f6, a1, a2, a3, a4, a5, a6, a7, a8) p q := by
  unfold wpX_join
  dsimp only
  have hno : ¬ cn_wr k p q → post (-1) (c, 0, f2, f3, f4, f5, f6, a1, a2, a3, a4, a5, a6, a7, a8) := fun h => H (-1) a2 (fun z => absurd z h) (fun _ => rfl) (fun j hj => Or.inr (Or.inr ⟨fun z => h z.1, h2 j hj⟩))
  refine cn_badPort hc (fun hp => br_t rfl (cn_badPort hc (fun hq => br_t rfl (br_c (fun e => hno (fun z => z.2.2 e)) (fun e => ?_))) (fun hq => br_f (by decide) (hno (fun z => hq z.2.1))))) (fun hp => br_f (by decide) (hno (fun z => hp z.1)))
  have w : cn_wr k p q := ⟨hp, hq, e⟩
  obtain ⟨a, ea, ha⟩ := cn_pinN hp
  obtain ⟨b, eb, hb⟩ := cn_pinN hq
  have ha' : a < 34 := by omega
  have hb' : b < 34 := by omega
  have ca : p.toNatClampNeg = a := pk_cl a ea
  have cb : q.toNatClampNeg = b := pk_cl b eb
  rw [ca, cb]
  refine ⟨pk_in a 34 ha' ea, br_t (h2 a ha') ⟨pk_in b 34 hb' eb, br_t (h2 b hb') ⟨pk_in a 34 ha' ea, nm_e ⟨pk_in b 34 hb' eb, nm_e (H 0 _ (fun _ => rfl) (fun z => absurd w z) (fun j hj => ?_))⟩⟩⟩⟩
  by_cases jb : j = b
  · subst jb
    rw [pk_us]
    exact Or.inr (Or.inl ⟨w, fun z => e (by rw [← z, eb]), eb.symm, rfl⟩)
  · rw [pk_un jb]
    by_cases ja : j = a
    · subst ja
      rw [pk_us]
      exact Or.inl ⟨w, ea.symm, rfl⟩
    · rw [pk_un ja]
      refine Or.inr (Or.inr ⟨fun z => ?_, h2 j hj⟩)
      rcases z.2 with z | z
      · exact ja ((nI_eq (by omega) (by omega)).mp (z.trans ea))
      · exact jb ((nI_eq (by omega) (by omega)).mp (z.trans eb))
end
section
/-! ===== the copy and its run: no cell faces another ===== -/
theorem cn_copyPort {post : Int32 → Prop} {u : St2} {x : Int32} (h : post (cn_cp x)) : wpX_copyPort post u x := by
  obtain ⟨c, f1, f2, f3, f4, f5, f6, a1, a2, a3, a4, a5, a6, a7, a8⟩ := u
  unfold wpX_copyPort
  dsimp only
  unfold cn_cp at h
  refine br_c (fun e => ?_) (fun e => br_c (fun e2 => ?_) (fun e2 => ?_))
  · rw [if_pos e] at h
    exact h
  · rw [if_neg e, if_pos e2] at h
    exact h
  · rw [if_neg e, if_neg e2] at h
    exact h
/-- a value that is no head of a cell -/
def cn_nh (x : Int32) : Prop := x = -1 ∨ x = 1 ∨ x = 2 ∨ ∃ n : Nat, n < 4 ∧ x = nI (1470 + n)
theorem cn_isHead {post : Int32 → Prop} {u : St2} {x : Int32} (h : cn_nh x) (H : post 0) : wpX_isHead post u x := by
  obtain ⟨c, f1, f2, f3, f4, f5, f6, a1, a2, a3, a4, a5, a6, a7, a8⟩ := u
  unfold wpX_isHead
  dsimp only
  rcases h with rfl | rfl | rfl | ⟨n, hn, rfl⟩
  · exact br_t (by decide) H
  · exact br_f (by decide) (br_f (by decide) ⟨by decide, br_f (by decide) H⟩)
  · exact br_f (by decide) (br_f (by decide) ⟨by decide, br_f (by decide) H⟩)
  · exact br_f (nI_pos (by omega)) (br_t (nI_le (a := 1470) (by omega) (by omega)) H)
theorem cn_faces {post : Int32 → Prop} {c f1 f2 f3 f4 f5 f6 : Int32} {a1 a2 a3 a4 a5 a6 a7 a8 : Nat → Int32} (h4 : a4 0 = 0) (h5 : cn_nh (a5 0)) (H : post 0) :
    wpX_faces post (c, f1, f2, f3, f4, f5, f6, a1, a2, a3, a4, a5, a6, a7, a8) 0 := by
  unfold wpX_faces
  dsimp only
  exact ⟨pk_in 0 490 (by omega), br_t h4 ⟨pk_in 0 1474 (by omega), cn_isHead h5 (br_t rfl H)⟩⟩
theorem cn_cp2 {post : St2 → Prop} {k c f1 f2 f3 f4 f5 f6 : Int32} {a1 a2 a3 a4 a5 a6 a7 a8 : Nat → Int32} (hc : cn_C k c a1)
    (H : ∀ b3 b4 : Nat → Int32, (cn_in k → b3 0 = k ∧ b4 0 = 0) → ∃ fu : Nat, wX_copyNet_37 post c f1 f2 f3 f4 f5 f6 fu 0 a1 a2 b3 b4 a5 a6 a7 a8) :
    ∃ fu : Nat, wX_copyNet_2 post c f1 f2 f3 f4 f5 f6 fu 0 a1 a2 a3 a4 a5 a6 a7 a8 := by
  rcases hc with ⟨hk, rfl, ha⟩ | ⟨hk, rfl⟩
  · exact Exists.intro (0 + 1 + 1) (br_f (by decide) ⟨pk_in 0 10 (by omega), pk_in 0 490 (by omega), nm_e ⟨pk_in 0 490 (by omega), nm_e (nm_r (show (0 : Int32) + 1 = 1 by decide) (br_t (by decide) (H _ _ (fun _ => ⟨pk_us.trans ha, pk_us⟩))))⟩⟩)
  · exact Exists.intro (0 + 1) (br_t (by decide) (H a3 a4 (fun z => absurd z hk)))
theorem cn_cp37 {post : St2 → Prop} {c f1 f2 f3 f4 f5 f6 : Int32} {a1 a2 a3 a4 a5 a6 a7 a8 : Nat → Int32}
    (H : ∀ b5 : Nat → Int32, (∀ j, j < 34 → b5 (cn_ix j) = cn_cp (a2 j)) → ∃ fu : Nat, wX_copyNet_101 post c f1 c 0 0 0 fu 0 0 a1 a2 a3 a4 b5 a6 a7 a8) :
    ∃ fu : Nat, wX_copyNet_37 post c f1 f2 f3 f4 f5 f6 fu 0 a1 a2 a3 a4 a5 a6 a7 a8 := by
  refine pk_loop (fun n i s => wX_copyNet_37 post c f1 f2 f3 f4 f5 f6 n (nI i) a1 a2 a3 a4 s a6 a7 a8) (fun i s => ∀ j, j < i → s (cn_ix j) = cn_cp (a2 j)) 34 0 a5 (by omega) (fun j hj => absurd hj (by omega)) (fun n s h => pk_le 34 34 (fun _ => H s h) (fun z => absurd z (by omega))) ?_
  intro n i s hi h hw
  refine pk_le 34 i (fun z => absurd z (by omega)) (fun _ => cn_copyPort ?_)
  rw [cn_cpI i hi, nI_clamp (show i < 2 ^ 31 by omega)]
  refine ⟨pk_in i 34 hi, cn_copyPort ⟨pk_in (cn_ix i) 1474 (cn_ixl hi), nm_e (nm_r (nI_1 i) (hw _ ?_))⟩⟩
  have hx := cn_ixl hi
  rw [nI_clamp (show cn_ix i < 2 ^ 31 by omega)]
  intro j hj
  by_cases e : j = i
  · rw [e, pk_us]
  · rw [pk_un (fun z => e (cn_ixi (by omega) hi z))]
    exact h j (by omega)
theorem cn_cp101 {post : St2 → Prop} {k c f1 : Int32} {a1 a2 a3 a4 a5 a6 a7 a8 : Nat → Int32} (hc : cn_C k c a1) (h4 : cn_in k → a4 0 = 0) (h5 : cn_nh (a5 0))
    (H : post (c, f1, c, 0, 0, 0, 0, a1, a2, a3, a4, a5, a6, a7, a8)) :
    ∃ fu : Nat, wX_copyNet_101 post c f1 c 0 0 0 fu 0 0 a1 a2 a3 a4 a5 a6 a7 a8 := by
  rcases hc with ⟨hk, rfl, ha⟩ | ⟨hk, rfl⟩
  · exact Exists.intro (0 + 1 + 1) (br_f (by decide) (cn_faces (h4 hk) h5 (br_t rfl (nm_r (show (0 : Int32) + 1 = 1 by decide) (br_t (by decide) H)))))
  · exact Exists.intro (0 + 1) (br_t (by decide) H)
/-- port 0 is no head that faces a head -/
theorem cn_nh0 {k p q t : Int32} (h : cn_M k p q (nI 0) t) : cn_nh (cn_cp t) := by
  rcases cn_tv h with rfl | ⟨n, hn, rfl, _⟩ | ⟨n, hn, rfl⟩
  · exact Or.inl cn_cp1
  · have h0 : n ≠ 0 := by
      rintro rfl
      rcases h with ⟨w, a, b⟩ | ⟨w, a, b, c⟩ | ⟨w, b⟩
      · exact w.2.2 (a.symm.trans b)
      · exact a c
      · exact absurd b (by decide)
    rw [cn_cpC n hn]
    rcases (show n = 1 ∨ n = 2 by omega) with rfl | rfl
    · exact Or.inr (Or.inl rfl)
    · exact Or.inr (Or.inr (Or.inl rfl))
  · rw [cn_cpE n hn]
    exact Or.inr (Or.inr (Or.inr ⟨n, hn, rfl⟩))
theorem cn_run {post : St2 → Prop} {k p q c f2 f3 f4 f5 f6 : Int32} {a1 a2 a3 a4 a5 a6 a7 a8 : Nat → Int32} (hc : cn_C k c a1) (h2 : ∀ j, j < 34 → cn_M k p q (nI j) (a2 j))
    (H : ∀ b3 b4 b5 : Nat → Int32, (cn_in k → b3 0 = k) → cn_R k p q b5 → post (c, 1, c, 0, 0, 0, 0, a1, a2, b3, b4, b5, a6, a7, a8)) :
    wpX_run post (c, 0, f2, f3, f4, f5, f6, a1, a2, a3, a4, a5, a6, a7, a8) := by
  unfold wpX_run
  dsimp only
  refine br_t rfl ?_
  unfold wpX_copyNet
  dsimp only
  refine cn_cp2 hc (fun b3 b4 h34 => cn_cp37 (fun b5 h5 => ?_))
  have e0 : b5 0 = cn_cp (a2 0) := h5 0 (by omega)
  refine cn_cp101 hc (fun z => (h34 z).2) (by rw [e0]; exact cn_nh0 (h2 0 (by omega))) (Exists.intro (0 + 1) (br_f (by decide) (br_t (show (0 : Int32) ≤ 0 by decide) (H b3 b4 b5 (fun z => (h34 z).1) ⟨fun j hj => ?_, fun n hn => ?_⟩))))
  · refine ⟨a2 j, h2 j (by omega), ?_⟩
    have e := h5 j (by omega)
    unfold cn_ix at e
    rw [if_pos (by omega)] at e
    exact e
  · refine ⟨a2 (30 + n), h2 (30 + n) (by omega), ?_⟩
    have e := h5 (30 + n) (by omega)
    unfold cn_ix at e
    rw [if_neg (by omega), show 30 + n + 1440 = 1470 + n by omega] at e
    exact e
theorem cn_steps {post : Int32 → St2 → Prop} {k p q c f2 f3 f4 f5 f6 : Int32} {a1 a2 a3 a4 a5 a6 a7 a8 : Nat → Int32} (hc : cn_C k c a1) (h2 : ∀ j, j < 34 → cn_M k p q (nI j) (a2 j))
    (H : ∀ b3 b4 b5 : Nat → Int32, (cn_in k → b3 0 = k) → cn_R k p q b5 → post 0 (c, 1, c, 0, 0, 0, 0, a1, a2, b3, b4, b5, a6, a7, a8)) :
    wpX_steps post (c, 0, f2, f3, f4, f5, f6, a1, a2, a3, a4, a5, a6, a7, a8) := by
  unfold wpX_steps
  dsimp only
  exact cn_run hc h2 (fun b3 b4 b5 h3 h5 => br_t rfl (H b3 b4 b5 h3 h5))
/-- a second run finds the net known -/
theorem cn_run1 {post : St2 → Prop} {c f2 f3 f4 f5 f6 : Int32} {a1 a2 a3 a4 a5 a6 a7 a8 : Nat → Int32} (H : post (c, 1, f2, f3, f4, f5, f6, a1, a2, a3, a4, a5, a6, a7, a8)) :
    wpX_run post (c, 1, f2, f3, f4, f5, f6, a1, a2, a3, a4, a5, a6, a7, a8) := by
  unfold wpX_run
  dsimp only
  exact br_f (by decide) H
end
section
/-! ===== walk ===== -/
theorem cn_named_m1 {post : Int32 → Prop} {u : St2} (H : post 9) : wpX_named post u (-1) := by
  obtain ⟨c, f1, f2, f3, f4, f5, f6, a1, a2, a3, a4, a5, a6, a7, a8⟩ := u
  unfold wpX_named
  dsimp only
  exact br_t rfl H
theorem cn_nm1 : ∀ n, n < 3 → ¬ nI n = -1 := by decide +kernel
theorem cn_nm1E : ∀ n, n < 4 → ¬ nI (1470 + n) = -1 := by decide +kernel
theorem cn_sub20 : ∀ n, n < 4 → (10 + nI (1470 + n)) - 1470 = nI (30 + n) - 20 := by decide +kernel
theorem cn_named_e {post : Int32 → Prop} {u : St2} {n : Nat} (hn : n < 4) (H : post (nI (30 + n) - 20)) : wpX_named post u (nI (1470 + n)) := by
  obtain ⟨c, f1, f2, f3, f4, f5, f6, a1, a2, a3, a4, a5, a6, a7, a8⟩ := u
  unfold wpX_named
  dsimp only
  rw [cn_sub20 n hn]
  exact br_f (cn_nm1E n hn) (br_f (nI_nlt (b := 1470) (by omega) (by omega)) H)
theorem cn_named_c {post : Int32 → Prop} {k c f1 f2 f3 f4 f5 f6 : Int32} {a1 a2 a3 a4 a5 a6 a7 a8 : Nat → Int32} {n : Nat} (hn : n < 3) (h3 : a3 0 = k) (H : post (3 * k + nI n)) :
    wpX_named post (c, f1, f2, f3, f4, f5, f6, a1, a2, a3, a4, a5, a6, a7, a8) (nI n) := by
  unfold wpX_named
  dsimp only
  have ed : nI n / 3 = nI (n / 3) := pk_div (d := 3) (by omega) (by omega) (by omega)
  have er : nI n - nI n / 3 * 3 = nI (n % 3) := pk_rem (d := 3) (by omega) (by omega) (by omega)
  rw [er, ed, show n / 3 = 0 by omega, show n % 3 = n by omega]
  refine br_f (cn_nm1 n hn) (br_t (nI_lt (b := 1470) (by omega) (by omega)) ⟨by decide, pk_in 0 490 (by omega), by decide, ?_⟩)
  rw [nI_clamp (by omega), h3]
  exact H
theorem cn_exit {post : Int32 → Prop} {u : St2} {i : Nat} {b : Int32} (hi : i < 3) (H : ∀ j, j < 3 → j ≠ i → post (nI j)) : wpX_exit post u (nI i) b := by
  obtain ⟨c, f1, f2, f3, f4, f5, f6, a1, a2, a3, a4, a5, a6, a7, a8⟩ := u
  unfold wpX_exit
  dsimp only
  have ed : nI i / 3 = nI (i / 3) := pk_div (d := 3) (by omega) (by omega) (by omega)
  have er : nI i - nI i / 3 * 3 = nI (i % 3) := pk_rem (d := 3) (by omega) (by omega) (by omega)
  rw [er, ed, show i / 3 = 0 by omega, show i % 3 = i by omega]
  have step : ∀ z : Nat, (z = 1 ∨ z = 2) → wX_exit_16 post (nI 0) (nI z) (nI i) c f1 f2 f3 f4 f5 f6 a1 a2 a3 a4 a5 a6 a7 a8 := by
    intro z hz
    unfold wX_exit_16
    refine nm_r (nI_add i z) (pk_le (i + z) 2 (fun y => ?_) (fun y => ?_))
    · have e : (3 * nI 0) + nI (i + z) = nI (i + z) := (congrArg (· + nI (i + z)) (show 3 * nI 0 = nI 0 by decide)).trans ((nI_add 0 (i + z)).trans (by rw [Nat.zero_add]))
      rw [e]
      exact H (i + z) (by omega) (by omega)
    · have e : (3 * nI 0) + (nI (i + z) - 3) = nI (i + z - 3) := by
        rw [show nI (i + z) - 3 = nI (i + z - 3) from pk_sub (b := 3) (by omega), show 3 * nI 0 = nI 0 by decide, nI_add, Nat.zero_add]
      rw [e]
      exact H (i + z - 3) (by omega) (by omega)
  exact ⟨by decide, nm_e ⟨by decide, br_c (fun _ => step 2 (Or.inr rfl)) (fun _ => step 1 (Or.inl rfl))⟩⟩
section
variable {post : Int32 → St2 → Prop} {c f1 f2 f3 f4 f5 f6 : Int32} {a1 a2 a3 a4 a5 a6 a7 a8 : Nat → Int32}
/-- at a port with no wire the walk ends with 9 -/
theorem cn_w53_m1 {n : Nat} {x4 x5 : Int32} (H : post 9 (c, f1, f2, f3, f4, f5, f6, a1, a2, a3, a4, a5, a6, a7, a8)) : wX_walk_53 post c f1 f2 f3 f4 f5 f6 a1 a2 a3 a4 a5 a6 a7 a8 (n + 1) (-1) x4 x5 := by
  have A : wX_walk_135 post (-1) c f1 f2 f3 f4 f5 f6 a1 a2 a3 a4 a5 a6 a7 a8 := by
    unfold wX_walk_135
    exact cn_named_m1 H
  have B : wX_walk_89 post (-1) c f1 f2 f3 f4 f5 f6 a1 a2 a3 a4 a5 a6 a7 a8 := by
    unfold wX_walk_89
    exact cn_named_m1 H
  exact br_c (fun _ => A) (fun _ => br_c (fun _ => A) (fun _ => br_t rfl B))
/-- at an end the walk ends with its name -/
theorem cn_w53_e {n i : Nat} {x4 : Int32} (hi : i < 4) (H : post (nI (30 + i) - 20) (c, f1, f2, f3, f4, f5, f6, a1, a2, a3, a4, a5, a6, a7, a8)) : wX_walk_53 post c f1 f2 f3 f4 f5 f6 a1 a2 a3 a4 a5 a6 a7 a8 (n + 1) (nI (1470 + i)) x4 0 := by
  have A : wX_walk_135 post (nI (1470 + i)) c f1 f2 f3 f4 f5 f6 a1 a2 a3 a4 a5 a6 a7 a8 := by
    unfold wX_walk_135
    exact cn_named_e hi H
  have B : wX_walk_89 post (nI (1470 + i)) c f1 f2 f3 f4 f5 f6 a1 a2 a3 a4 a5 a6 a7 a8 := by
    unfold wX_walk_89
    exact cn_named_e hi H
  exact br_c (fun _ => A) (fun _ => br_c (fun _ => A) (fun _ => br_f (cn_nm1E i hi) (br_t (nI_le (a := 1470) (by omega) (by omega)) B)))
/-- at a cell's port -/
theorem cn_w53_c {n i : Nat} {k x4 : Int32} (hi : i < 3) (h3 : a3 0 = k) (h5 : ∀ j, j < 3 → j ≠ i → a5 j = -1)
    (H0 : x4 ≤ 0 ∨ k = 2 → post (3 * k + nI i) (c, f1, f2, f3, f4, f5, f6, a1, a2, a3, a4, a5, a6, a7, a8))
    (H1 : ¬ x4 ≤ 0 → ¬ k = 2 → post 9 (c, f1, f2, f3, f4, f5, f6, a1, a2, a3, a4, a5, a6, a7, a8)) :
    wX_walk_53 post c f1 f2 f3 f4 f5 f6 a1 a2 a3 a4 a5 a6 a7 a8 (n + 1 + 1) (nI i) x4 0 := by
  have ed : nI i / 3 = nI 0 := (pk_div (d := 3) (by omega) (by omega) (by omega)).trans (by rw [show i / 3 = 0 by omega])
  refine br_f (by decide) (br_c (fun h => ?_) (fun h => br_f (cn_nm1 i hi) (br_f (nI_ge (b := 1470) (by omega) (by omega)) ⟨by decide, ?_⟩)))
  · unfold wX_walk_135
    exact cn_named_c hi h3 (H0 (Or.inl h))
  · rw [ed, nI_clamp (by omega), h3]
    have X : ∀ z0 : Int32, ¬ k = 2 → wX_walk_110 post (wX_walk_53 post c f1 f2 f3 f4 f5 f6 a1 a2 a3 a4 a5 a6 a7 a8 (n + 1)) x4 0 z0 (nI i) c f1 f2 f3 f4 f5 f6 a1 a2 a3 a4 a5 a6 a7 a8 := by
      intro z0 hk
      unfold wX_walk_110
      refine cn_exit hi (fun j hj hji => ?_)
      rw [nI_clamp (by omega), h5 j hj hji]
      exact ⟨pk_in j 1474 (by omega), nm_e (nm_e (nm_e (cn_w53_m1 (H1 h hk))))⟩
    refine ⟨pk_in 0 490 (by omega), br_c (fun hk => ?_) (fun hk => br_c (fun _ => X 1 hk) (fun _ => X 0 hk))⟩
    unfold wX_walk_89
    exact cn_named_c hi h3 (H0 (Or.inr hk))
end
theorem cn_walk {post : Int32 → St2 → Prop} {k p q e tn c : Int32} {a1 a2 a3 a4 a5 a6 a7 a8 : Nat → Int32} (h3 : cn_in k → a3 0 = k) (hR : cn_R k p q a5)
    (H : ∀ r : Int32, cn_due k p q e tn r → post r (c, 1, c, 0, 0, 0, 0, a1, a2, a3, a4, a5, a6, a7, a8)) :
    wpX_walk post (c, 1, c, 0, 0, 0, 0, a1, a2, a3, a4, a5, a6, a7, a8) e tn := by
  unfold wpX_walk
  dsimp only
  have bad : ¬ (cn_end e ∧ ¬ tn < 0 ∧ tn ≤ 4095) → post (-1) (c, 1, c, 0, 0, 0, 0, a1, a2, a3, a4, a5, a6, a7, a8) := fun h => H (-1) ⟨fun _ => rfl, fun z => absurd z h⟩
  refine br_c (fun h => bad (fun z => z.1.1 h)) (fun h => br_c (fun g => bad (fun z => z.1.2 g)) (fun g => br_c (fun i => bad (fun z => z.2.1 i)) (fun i => br_c (fun m => ?_) (fun m => bad (fun z => m z.2.2)))))
  have good : cn_end e ∧ ¬ tn < 0 ∧ tn ≤ 4095 := ⟨⟨h, g⟩, i, m⟩
  refine cn_run1 (br_t rfl ?_)
  obtain ⟨n, hn, rfl⟩ := nI_of2 (x := e) (M := 3) (n := 3) (by decide) h (cn_nlt.mp g)
  have e1 : 1470 + nI n = nI (1470 + n) := nI_add 1470 n
  have e2 : 30 + nI n = nI (30 + n) := nI_add 30 n
  rw [e1, nI_clamp (by omega)]
  obtain ⟨t, hM, h5⟩ := hR.2 n (by omega)
  refine ⟨pk_in (1470 + n) 1474 (by omega), nm_r h5 ?_⟩
  have fin : ∀ r : Int32, ((¬ 0 ≤ t → r = 9) ∧ (0 ≤ t → ¬ t ≤ 29 → r = t - 20) ∧ (0 ≤ t → t ≤ 29 → tn = 0 ∨ k = 2 → r = 3 * k + t) ∧ (0 ≤ t → t ≤ 29 → ¬ tn = 0 → ¬ k = 2 → r = 9)) → post r (c, 1, c, 0, 0, 0, 0, a1, a2, a3, a4, a5, a6, a7, a8) := by
    intro r hr
    refine H r ⟨fun z => absurd good z, fun _ t' ht' => ?_⟩
    rw [e2] at ht'
    rw [cn_Mu ht' hM]
    exact hr
  rcases cn_tv hM with rfl | ⟨j, hj, rfl, hk, _⟩ | ⟨j, hj, rfl⟩
  · rw [cn_cp1]
    exact Exists.intro (0 + 1) (cn_w53_m1 (fin 9 ⟨fun _ => rfl, fun z => absurd z (by decide), fun z => absurd z (by decide), fun z => absurd z (by decide)⟩))
  · rw [cn_cpC j hj]
    have l0 : (0 : Int32) ≤ nI j := nI_pos' (by omega)
    have l29 : nI j ≤ 29 := nI_le (b := 29) (by omega) (by omega)
    refine Exists.intro (0 + 1 + 1) (cn_w53_c hj (h3 hk) ?_ (fun z => ?_) (fun z y => ?_))
    · intro s hs hsj
      obtain ⟨t', ht', h5'⟩ := hR.1 s hs
      rcases cn_lone (by omega) hj hs hM ht' with ⟨z, _⟩ | ⟨_, rfl⟩
      · exact absurd z hsj
      · exact h5'.trans cn_cp1
    · refine fin _ ⟨fun y => absurd l0 y, fun _ y => absurd l29 y, fun _ _ _ => rfl, fun _ _ y1 y2 => ?_⟩
      rcases z with z | z
      · have : tn = 0 := by
          rw [Int32.le_iff_toInt_le] at z
          rw [Int32.lt_iff_toInt_lt] at i
          exact Int32.toInt_inj.mp (by omega)
        exact absurd this y1
      · exact absurd z y2
    · refine fin _ ⟨fun y => absurd l0 y, fun _ y => absurd l29 y, fun _ _ y1 => ?_, fun _ _ _ _ => rfl⟩
      rcases y1 with rfl | y1
      · exact absurd (by decide) z
      · exact absurd y1 y
  · rw [cn_cpE j hj]
    have l0 : (0 : Int32) ≤ nI (30 + j) := nI_pos' (by omega)
    have l29 : ¬ nI (30 + j) ≤ 29 := nI_ge (a := 29) (by omega) (by omega)
    exact Exists.intro (0 + 1) (cn_w53_e hj (fin _ ⟨fun y => absurd l0 y, fun _ _ => rfl, fun _ y => absurd y l29, fun _ y => absurd y l29⟩))
end
section
/-! ===== reach and cut ===== -/
/-- not a cell's port -/
def cn_nc (x : Int32) : Prop := x = -1 ∨ ∃ n : Nat, n < 4 ∧ x = nI (1470 + n)
section
variable {post : Int32 → St2 → Prop} {c f1 f2 f3 f4 f5 f6 : Int32} {a1 a2 a3 a4 a5 a6 a7 a8 : Nat → Int32}
theorem cn_enter_no {x n : Int32} (h : cn_nc x) (H : post n (c, f1, f2, f3, f4, f5, f6, a1, a2, a3, a4, a5, a6, a7, a8)) : wpX_enter post (c, f1, f2, f3, f4, f5, f6, a1, a2, a3, a4, a5, a6, a7, a8) x n := by
  unfold wpX_enter
  dsimp only
  rcases h with rfl | ⟨i, hi, rfl⟩
  · exact br_t rfl H
  · exact br_f (cn_nm1E i hi) (br_t (nI_le (a := 1470) (by omega) (by omega)) H)
theorem cn_enter_c {i : Nat} (hi : i < 3) (h7 : a7 0 = 0) (H : ∀ b7 b8 : Nat → Int32, b8 0 = 0 → post 1 (c, f1, f2, f3, f4, f5, f6, a1, a2, a3, a4, a5, a6, b7, b8)) : wpX_enter post (c, f1, f2, f3, f4, f5, f6, a1, a2, a3, a4, a5, a6, a7, a8) (nI i) 0 := by
  unfold wpX_enter
  dsimp only
  have ed : nI i / 3 = nI 0 := (pk_div (d := 3) (by omega) (by omega) (by omega)).trans (by rw [show i / 3 = 0 by omega])
  rw [ed]
  exact br_f (cn_nm1 i hi) (br_f (nI_ge (b := 1470) (by omega) (by omega)) ⟨by decide, pk_in 0 490 (by omega), br_t h7 ⟨by decide, pk_in 0 490 (by omega), nm_e ⟨by decide, pk_in 0 490 (by omega), nm_e (H _ _ (pk_us.trans nI_0))⟩⟩⟩)
theorem cn_r81s {J : Int32 → Int32 → Int32 → Int32 → Int32 → Int32 → Int32 → Int32 → Int32 → (Nat → Int32) → (Nat → Int32) → (Nat → Int32) → (Nat → Int32) → (Nat → Int32) → (Nat → Int32) → (Nat → Int32) → (Nat → Int32) → Prop} {n s : Nat} (hs : s < 3) (h8 : a8 0 = 0) (h5 : ∀ j, j < 3 → cn_nc (a5 j))
    (H : wX_reach_81 post J 0 n 1 (nI (s + 1)) c f1 f2 f3 f4 f5 f6 a1 a2 a3 a4 a5 a6 a7 a8) : wX_reach_81 post J 0 (n + 1) 1 (nI s) c f1 f2 f3 f4 f5 f6 a1 a2 a3 a4 a5 a6 a7 a8 := by
  have e8 : a8 (0 : Int32).toNatClampNeg = 0 := h8
  have ei : (3 * (a8 (0 : Int32).toNatClampNeg)) + nI s = nI s := by
    rw [e8]
    exact (congrArg (· + nI s) (show (3 : Int32) * 0 = nI 0 by decide)).trans ((nI_add 0 s).trans (by rw [Nat.zero_add]))
  refine br_f (nI_ge (b := 3) hs (by omega)) ⟨pk_in 0 490 (by omega), ?_⟩
  rw [ei, nI_clamp (by omega)]
  exact ⟨pk_in s 1474 (by omega), cn_enter_no (h5 s hs) (nm_r (nI_1 s) H)⟩
theorem cn_r66 (h8 : a8 0 = 0) (h5 : ∀ j, j < 3 → cn_nc (a5 j)) (H : post 1 (c, f1, f2, f3, f4, f5, f6, a1, a2, a3, a4, a5, a6, a7, a8)) : ∃ fu : Nat, wX_reach_66 post fu 1 0 c f1 f2 f3 f4 f5 f6 a1 a2 a3 a4 a5 a6 a7 a8 := by
  refine Exists.intro (0 + 1 + 1) (br_f (by decide) (br_f (by decide) (Exists.intro (0 + 1 + 1 + 1 + 1) ?_)))
  refine cn_r81s (s := 0) (by omega) h8 h5 (cn_r81s (s := 1) (by omega) h8 h5 (cn_r81s (s := 2) (by omega) h8 h5 ?_))
  exact br_t (by decide) (nm_r (show (0 : Int32) + 1 = 1 by decide) (br_t (by decide) H))
theorem cn_r27 {k x1 : Int32} (hc : cn_C k c a1)
    (H : ∀ (m : Nat) (b7 : Nat → Int32), (cn_in k → b7 0 = 0) → wX_reach_27 post x1 c f1 c f3 f4 f5 f6 (m + 1) c a1 a2 a3 a4 a5 a6 b7 a8) :
    ∃ fu : Nat, wX_reach_27 post x1 c f1 c f3 f4 f5 f6 fu 0 a1 a2 a3 a4 a5 a6 a7 a8 := by
  rcases hc with ⟨hk, rfl, ha⟩ | ⟨hk, rfl⟩
  · exact Exists.intro (0 + 1 + 1) (br_f (by decide) ⟨pk_in 0 490 (by omega), nm_e (nm_r (show (0 : Int32) + 1 = 1 by decide) (H 0 _ (fun _ => pk_us)))⟩)
  · exact Exists.intro (0 + 1) (H 0 a7 (fun z => absurd z hk))
end
theorem cn_reach {post : Int32 → St2 → Prop} {k p q e c : Int32} {a1 a2 a3 a4 a5 a6 a7 a8 : Nat → Int32} (hc : cn_C k c a1) (hR : cn_R k p q a5)
    (H : ∀ (r : Int32) (b7 b8 : Nat → Int32), cn_rch k p q e r → post r (c, 1, c, 0, 0, 0, 0, a1, a2, a3, a4, a5, a6, b7, b8)) :
    wpX_reach post (c, 1, c, 0, 0, 0, 0, a1, a2, a3, a4, a5, a6, a7, a8) e := by
  unfold wpX_reach
  dsimp only
  have bad : ¬ cn_end e → post (-1) (c, 1, c, 0, 0, 0, 0, a1, a2, a3, a4, a5, a6, a7, a8) := fun h => H (-1) a7 a8 ⟨fun _ => rfl, fun z => absurd z h⟩
  refine br_c (fun h => bad (fun z => z.1 h)) (fun h => br_c (fun g => ?_) (fun g => bad (fun z => g (cn_nlt.mp z.2))))
  have good : cn_end e := ⟨h, cn_nlt.mpr g⟩
  refine cn_run1 (br_t rfl (cn_r27 hc (fun m b7 h7 => br_t (cn_nlt.mp (by rw [Int32.lt_iff_toInt_lt]; omega)) ?_)))
  obtain ⟨n, hn, rfl⟩ := nI_of2 (x := e) (M := 3) (n := 3) (by decide) h g
  have e1 : 1470 + nI n = nI (1470 + n) := nI_add 1470 n
  have e2 : 30 + nI n = nI (30 + n) := nI_add 30 n
  rw [e1, nI_clamp (by omega)]
  obtain ⟨t, hM, h5⟩ := hR.2 n (by omega)
  dsimp only
  rw [h5]
  refine ⟨pk_in (1470 + n) 1474 (by omega), ?_⟩
  have fin : ∀ (r : Int32) (b7 b8 : Nat → Int32), ((¬ t < 0 ∧ ¬ 3 ≤ t → r = 1) ∧ (¬ (¬ t < 0 ∧ ¬ 3 ≤ t) → r = 0)) → post r (c, 1, c, 0, 0, 0, 0, a1, a2, a3, a4, a5, a6, b7, b8) := by
    intro r b7 b8 hr
    refine H r b7 b8 ⟨fun z => absurd good z, fun _ t' ht' => ?_⟩
    rw [e2] at ht'
    rw [cn_Mu ht' hM]
    exact hr
  rcases cn_tv hM with rfl | ⟨j, hj, rfl, hk, _⟩ | ⟨j, hj, rfl⟩
  · rw [cn_cp1]
    exact cn_enter_no (Or.inl rfl) (Exists.intro (0 + 1) (br_t (by decide) (fin 0 _ _ ⟨fun z => absurd (by decide) z.1, fun _ => rfl⟩)))
  · rw [cn_cpC j hj]
    have l0 : ¬ nI j < 0 := nI_pos (by omega)
    have l3 : ¬ 3 ≤ nI j := nI_ge (b := 3) hj (by omega)
    refine cn_enter_c hj (h7 hk) (fun d7 d8 h8 => cn_r66 h8 (fun s hs => ?_) (fin 1 d7 d8 ⟨fun _ => rfl, fun z => absurd ⟨l0, l3⟩ z⟩))
    obtain ⟨t', ht', h5'⟩ := hR.1 s hs
    rcases cn_lone (by omega) hj hs hM ht' with ⟨_, rfl⟩ | ⟨_, rfl⟩
    · exact Or.inr ⟨n, by omega, h5'.trans (cn_cpE n (by omega))⟩
    · exact Or.inl (h5'.trans cn_cp1)
  · rw [cn_cpE j hj]
    have l3 : 3 ≤ nI (30 + j) := nI_le (a := 3) (by omega) (by omega)
    exact cn_enter_no (Or.inr ⟨j, hj, rfl⟩) (Exists.intro (0 + 1) (br_t (by decide) (fin 0 _ _ ⟨fun z => absurd l3 z.2, fun _ => rfl⟩)))
theorem cn_cut {post : Int32 → St2 → Prop} {k p q c f1 f2 f3 f4 f5 f6 : Int32} {a1 a2 a3 a4 a5 a6 a7 a8 : Nat → Int32} (hc : cn_C k c a1) (h2 : ∀ j, j < 34 → cn_M k p q (nI j) (a2 j))
    (H : ∀ (r f : Int32) (b2 : Nat → Int32), cn_cutR k p q r → post r (c, f, f2, f3, f4, f5, f6, a1, b2, a3, a4, a5, a6, a7, a8)) :
    wpX_cut post (c, f1, f2, f3, f4, f5, f6, a1, a2, a3, a4, a5, a6, a7, a8) q := by
  unfold wpX_cut
  dsimp only
  refine cn_badPort hc (fun hq => br_t rfl ?_) (fun hq => br_f (by decide) (H (-1) f1 a2 ⟨fun _ => rfl, fun z => absurd z hq, fun z => absurd z.2.1 hq⟩))
  obtain ⟨b, eb, hb⟩ := cn_pinN hq
  have hb' : b < 34 := by omega
  have cb : q.toNatClampNeg = b := pk_cl b eb
  rw [cb]
  have m := h2 b hb'
  rw [← eb] at m
  by_cases w : cn_wr k p q
  · have e : a2 b = p := by
      rcases m with ⟨_, z, _⟩ | ⟨_, _, _, z⟩ | ⟨z, _⟩
      · exact absurd z.symm w.2.2
      · exact z
      · exact absurd ⟨w, Or.inr rfl⟩ z
    obtain ⟨a, ea, ha⟩ := cn_pinN w.1
    have ha' : a < 34 := by omega
    have n1 : ∀ m, m < 34 → ¬ nI m = -1 := by decide +kernel
    refine ⟨pk_in b 34 hb' eb, nm_r e (br_f (by rw [ea]; exact n1 a ha') ⟨pk_in b 34 hb' eb, nm_e ⟨pk_in a 34 ha' ea, nm_e (H p 0 _ ⟨fun z => absurd hq z, fun _ z => absurd w z, fun _ => rfl⟩)⟩⟩)⟩
  · have e : a2 b = -1 := by
      rcases m with ⟨z, _⟩ | ⟨z, _⟩ | ⟨_, z⟩
      · exact absurd z w
      · exact absurd z w
      · exact z
    exact ⟨pk_in b 34 hb' eb, nm_r e (br_t rfl (H (-4) f1 a2 ⟨fun z => absurd hq z, fun _ _ => rfl, fun z => absurd z w⟩))⟩
end
section
/-! ===== the law's own checks ===== -/
/-- the answers of the six calls -/
def cn_F (k p q e tn x6 x7 x8 x9 x10 x11 : Int32) : Prop := ((cn_in k → x6 = 0) ∧ (¬ cn_in k → x6 = -1)) ∧ ((cn_wr k p q → x7 = 0) ∧ (¬ cn_wr k p q → x7 = -1)) ∧ x8 = 0 ∧ cn_due k p q e tn x9 ∧ cn_rch k p q e x10 ∧ cn_cutR k p q x11
section
variable {post : Int32 → St0 → Prop} {mc ms kc ks : Nat} {k p q e tn x6 x7 x8 x9 x10 x11 x12 x13 x14 x15 x16 x17 x19 x20 x21 z0 z1 : Int32}
theorem cn_s441 (hp : post 1 ()) (hz : z1 = z0) : wL_lawOf_441 post mc ms z0 z1 kc ks := by
  unfold wL_lawOf_441
  exact br_t hz hp
theorem cn_s416 (F : cn_F k p q e tn x6 x7 x8 x9 x10 x11) (hp : post 1 ()) (b14 : cn_B (cn_pin k q) x14) (b15 : cn_B (cn_wr k p q) x15) (hz : z1 = z0) : wL_lawOf_416 post mc ms p x11 x14 x15 z0 z1 kc ks := by
  unfold wL_lawOf_416
  obtain ⟨_, _, _, _, _, h11⟩ := F
  exact br_t hz (cn_bb b14 (fun h => cn_s441 hp (h11.1 h)) (fun h => cn_bb b15 (fun w => cn_s441 hp (h11.2.1 h w)) (fun w => cn_s441 hp (h11.2.2 w))))
theorem cn_s380 (F : cn_F k p q e tn x6 x7 x8 x9 x10 x11) (hp : post 1 ()) (b14 : cn_B (cn_pin k q) x14) (b15 : cn_B (cn_wr k p q) x15) (b16 : cn_B (cn_end e) x16) (m19 : cn_M k p q (30 + e) x19) (b20 : cn_B (cn_end e ∧ ¬ x19 < 0 ∧ ¬ 3 ≤ x19) x20) (hz : z1 = z0) (h21 : x9 = x21) : wL_lawOf_380 post mc ms p x8 x9 x10 x11 x14 x15 x16 x20 x21 z0 z1 kc ks := by
  unfold wL_lawOf_380
  have F' := F
  obtain ⟨_, _, h8, _, h10, _⟩ := F'
  refine br_t hz (br_t h8 (br_t h21 (cn_bb b16 (fun h => cn_s416 F hp b14 b15 (h10.1 h)) (fun h => cn_bb b20 (fun g => cn_s416 F hp b14 b15 ((h10.2 h _ m19).2 (fun z => g ⟨h, z⟩))) (fun g => cn_s416 F hp b14 b15 ((h10.2 h _ m19).1 g.2))))))
theorem cn_s365 (F : cn_F k p q e tn x6 x7 x8 x9 x10 x11) (hp : post 1 ()) (b14 : cn_B (cn_pin k q) x14) (b15 : cn_B (cn_wr k p q) x15) (b16 : cn_B (cn_end e) x16) (m19 : cn_M k p q (30 + e) x19) (b20 : cn_B (cn_end e ∧ ¬ x19 < 0 ∧ ¬ 3 ≤ x19) x20) (hz : z1 = z0) (h21 : x9 = x21) : wL_lawOf_365 post mc ms p x7 x8 x9 x10 x11 x14 x15 x16 x20 x21 z0 z1 kc ks := by
  unfold wL_lawOf_365
  have F' := F
  obtain ⟨_, h7, _, _, _, _⟩ := F'
  exact br_t hz (cn_bb b15 (fun w => cn_s380 F hp b14 b15 b16 m19 b20 (h7.2 w) h21) (fun w => cn_s380 F hp b14 b15 b16 m19 b20 (h7.1 w) h21))
theorem cn_s351 (F : cn_F k p q e tn x6 x7 x8 x9 x10 x11) (hp : post 1 ()) (b12 : cn_B (cn_in k) x12) (b14 : cn_B (cn_pin k q) x14) (b15 : cn_B (cn_wr k p q) x15) (b16 : cn_B (cn_end e) x16) (m19 : cn_M k p q (30 + e) x19) (b20 : cn_B (cn_end e ∧ ¬ x19 < 0 ∧ ¬ 3 ≤ x19) x20) (h21 : x9 = z0) : wL_lawOf_351 post mc ms p x6 x7 x8 x9 x10 x11 x12 x14 x15 x16 x20 z0 kc ks := by
  unfold wL_lawOf_351
  have F' := F
  obtain ⟨h6, _, _, _, _, _⟩ := F'
  exact cn_bb b12 (fun w => cn_s365 F hp b14 b15 b16 m19 b20 (h6.2 w) h21) (fun w => cn_s365 F hp b14 b15 b16 m19 b20 (h6.1 w) h21)
theorem cn_s301 (F : cn_F k p q e tn x6 x7 x8 x9 x10 x11) (hp : post 1 ()) (b12 : cn_B (cn_in k) x12) (b14 : cn_B (cn_pin k q) x14) (b15 : cn_B (cn_wr k p q) x15) (b16 : cn_B (cn_end e) x16) (m19 : cn_M k p q (30 + e) x19) (b20 : cn_B (cn_end e ∧ ¬ x19 < 0 ∧ ¬ 3 ≤ x19) x20) (h21 : x9 = -1) : wL_lawOf_301 post mc ms p x6 x7 x8 x9 x10 x11 x12 x14 x15 x16 x20 kc ks := by
  unfold wL_lawOf_301
  exact cn_s351 F hp b12 b14 b15 b16 m19 b20 h21
theorem cn_s340 (F : cn_F k p q e tn x6 x7 x8 x9 x10 x11) (hp : post 1 ()) (b12 : cn_B (cn_in k) x12) (b14 : cn_B (cn_pin k q) x14) (b15 : cn_B (cn_wr k p q) x15) (b16 : cn_B (cn_end e) x16) (m19 : cn_M k p q (30 + e) x19) (b20 : cn_B (cn_end e ∧ ¬ x19 < 0 ∧ ¬ 3 ≤ x19) x20) (h21 : x9 = (3 * k) + x19) : wL_lawOf_340 post mc ms k p x6 x7 x8 x9 x10 x11 x12 x14 x15 x16 x19 x20 kc ks := by
  unfold wL_lawOf_340
  exact cn_s351 F hp b12 b14 b15 b16 m19 b20 h21
theorem cn_s281 (F : cn_F k p q e tn x6 x7 x8 x9 x10 x11) (hp : post 1 ()) (b12 : cn_B (cn_in k) x12) (b14 : cn_B (cn_pin k q) x14) (b15 : cn_B (cn_wr k p q) x15) (b16 : cn_B (cn_end e) x16) (m19 : cn_M k p q (30 + e) x19) (b20 : cn_B (cn_end e ∧ ¬ x19 < 0 ∧ ¬ 3 ≤ x19) x20)  : wL_lawOf_281 post mc ms k p tn x6 x7 x8 x9 x10 x11 x12 x14 x15 x16 x19 x20 kc ks := by
  unfold wL_lawOf_281
  have F' := F
  obtain ⟨_, _, _, h9, _, _⟩ := F'
  refine cn_bb b16 (fun h => cn_s301 F hp b12 b14 b15 b16 m19 b20 (h9.1 (fun z => h z.1))) (fun h => br_c (fun g => cn_s301 F hp b12 b14 b15 b16 m19 b20 (h9.1 (fun z => z.2.1 g))) (fun g => br_c (fun i => ?_) (fun i => cn_s301 F hp b12 b14 b15 b16 m19 b20 (h9.1 (fun z => i z.2.2)))))
  have D := h9.2 ⟨h, g, i⟩ x19 m19
  exact br_c (fun u => br_c (fun v => br_c (fun t => cn_s340 F hp b12 b14 b15 b16 m19 b20 (D.2.2.1 u v (Or.inl t))) (fun t => br_c (fun s => cn_s340 F hp b12 b14 b15 b16 m19 b20 (D.2.2.1 u v (Or.inr s))) (fun s => cn_s351 F hp b12 b14 b15 b16 m19 b20 (D.2.2.2 u v t s)))) (fun v => cn_s351 F hp b12 b14 b15 b16 m19 b20 (D.2.1 u v))) (fun u => cn_s351 F hp b12 b14 b15 b16 m19 b20 (D.1 u))
theorem cn_s280 (F : cn_F k p q e tn x6 x7 x8 x9 x10 x11) (hp : post 1 ()) (b12 : cn_B (cn_in k) x12) (b14 : cn_B (cn_pin k q) x14) (b15 : cn_B (cn_wr k p q) x15) (b16 : cn_B (cn_end e) x16) (m19 : cn_M k p q (30 + e) x19) (hn : ¬ (cn_end e ∧ ¬ x19 < 0 ∧ ¬ 3 ≤ x19)) : wL_lawOf_280 post mc ms k p tn x6 x7 x8 x9 x10 x11 x12 x14 x15 x16 x19 kc ks := by
  unfold wL_lawOf_280
  exact cn_s281 F hp b12 b14 b15 b16 m19 (Or.inr ⟨rfl, hn⟩)
theorem cn_s258 (F : cn_F k p q e tn x6 x7 x8 x9 x10 x11) (hp : post 1 ()) (b12 : cn_B (cn_in k) x12) (b14 : cn_B (cn_pin k q) x14) (b15 : cn_B (cn_wr k p q) x15) (b16 : cn_B (cn_end e) x16) (m19 : cn_M k p q (30 + e) x19)  : wL_lawOf_258 post mc ms k p tn x6 x7 x8 x9 x10 x11 x12 x14 x15 x16 x19 kc ks := by
  unfold wL_lawOf_258
  exact cn_bb b16 (fun h => cn_s280 F hp b12 b14 b15 b16 m19 (fun z => h z.1)) (fun h => br_c (fun g => cn_s280 F hp b12 b14 b15 b16 m19 (fun z => z.2.1 g)) (fun g => br_c (fun i => cn_s280 F hp b12 b14 b15 b16 m19 (fun z => z.2.2 i)) (fun i => cn_s281 F hp b12 b14 b15 b16 m19 (Or.inl ⟨rfl, h, g, i⟩))))
theorem cn_s237 (F : cn_F k p q e tn x6 x7 x8 x9 x10 x11) (hp : post 1 ()) (b12 : cn_B (cn_in k) x12) (b14 : cn_B (cn_pin k q) x14) (b15 : cn_B (cn_wr k p q) x15) (b16 : cn_B (cn_end e) x16) (b17 : cn_B (cn_wr k p q ∧ p = 30 + e) x17) (b18 : cn_B (cn_wr k p q ∧ q = 30 + e) z0) : wL_lawOf_237 post mc ms k p q tn x6 x7 x8 x9 x10 x11 x12 x14 x15 x16 x17 z0 kc ks := by
  unfold wL_lawOf_237
  refine cn_bb b17 (fun h => cn_bb b18 (fun g => cn_s258 F hp b12 b14 b15 b16 ?_) (fun g => cn_s258 F hp b12 b14 b15 b16 ?_)) (fun h => cn_s258 F hp b12 b14 b15 b16 ?_)
  · refine Or.inr (Or.inr ⟨fun z => ?_, rfl⟩)
    rcases z.2 with y | y
    · exact h ⟨z.1, y.symm⟩
    · exact g ⟨z.1, y.symm⟩
  · exact Or.inr (Or.inl ⟨g.1, fun z => h ⟨g.1, z.symm⟩, g.2.symm, rfl⟩)
  · exact Or.inl ⟨h.1, h.2.symm, rfl⟩
theorem cn_s236 (F : cn_F k p q e tn x6 x7 x8 x9 x10 x11) (hp : post 1 ()) (b12 : cn_B (cn_in k) x12) (b14 : cn_B (cn_pin k q) x14) (b15 : cn_B (cn_wr k p q) x15) (b16 : cn_B (cn_end e) x16) (b17 : cn_B (cn_wr k p q ∧ p = 30 + e) x17) (hn : ¬ (cn_wr k p q ∧ q = 30 + e)) : wL_lawOf_236 post mc ms k p q tn x6 x7 x8 x9 x10 x11 x12 x14 x15 x16 x17 kc ks := by
  unfold wL_lawOf_236
  exact cn_s237 F hp b12 b14 b15 b16 b17 (Or.inr ⟨rfl, hn⟩)
theorem cn_s217 (F : cn_F k p q e tn x6 x7 x8 x9 x10 x11) (hp : post 1 ()) (b12 : cn_B (cn_in k) x12) (b14 : cn_B (cn_pin k q) x14) (b15 : cn_B (cn_wr k p q) x15) (b16 : cn_B (cn_end e) x16) (b17 : cn_B (cn_wr k p q ∧ p = 30 + e) x17)  : wL_lawOf_217 post mc ms k p q e tn x6 x7 x8 x9 x10 x11 x12 x14 x15 x16 x17 kc ks := by
  unfold wL_lawOf_217
  exact cn_bb b15 (fun h => cn_s236 F hp b12 b14 b15 b16 b17 (fun z => h z.1)) (fun h => br_c (fun g => cn_s237 F hp b12 b14 b15 b16 b17 (Or.inl ⟨rfl, h, g⟩)) (fun g => cn_s236 F hp b12 b14 b15 b16 b17 (fun z => g z.2)))
theorem cn_s216 (F : cn_F k p q e tn x6 x7 x8 x9 x10 x11) (hp : post 1 ()) (b12 : cn_B (cn_in k) x12) (b14 : cn_B (cn_pin k q) x14) (b15 : cn_B (cn_wr k p q) x15) (b16 : cn_B (cn_end e) x16) (hn : ¬ (cn_wr k p q ∧ p = 30 + e)) : wL_lawOf_216 post mc ms k p q e tn x6 x7 x8 x9 x10 x11 x12 x14 x15 x16 kc ks := by
  unfold wL_lawOf_216
  exact cn_s217 F hp b12 b14 b15 b16 (Or.inr ⟨rfl, hn⟩)
theorem cn_s197 (F : cn_F k p q e tn x6 x7 x8 x9 x10 x11) (hp : post 1 ()) (b12 : cn_B (cn_in k) x12) (b14 : cn_B (cn_pin k q) x14) (b15 : cn_B (cn_wr k p q) x15) (b16 : cn_B (cn_end e) x16)  : wL_lawOf_197 post mc ms k p q e tn x6 x7 x8 x9 x10 x11 x12 x14 x15 x16 kc ks := by
  unfold wL_lawOf_197
  exact cn_bb b15 (fun h => cn_s216 F hp b12 b14 b15 b16 (fun z => h z.1)) (fun h => br_c (fun g => cn_s217 F hp b12 b14 b15 b16 (Or.inl ⟨rfl, h, g⟩)) (fun g => cn_s216 F hp b12 b14 b15 b16 (fun z => g z.2)))
theorem cn_s196 (F : cn_F k p q e tn x6 x7 x8 x9 x10 x11) (hp : post 1 ()) (b12 : cn_B (cn_in k) x12) (b14 : cn_B (cn_pin k q) x14) (b15 : cn_B (cn_wr k p q) x15) (hn : ¬ cn_end e) : wL_lawOf_196 post mc ms k p q e tn x6 x7 x8 x9 x10 x11 x12 x14 x15 kc ks := by
  unfold wL_lawOf_196
  exact cn_s197 F hp b12 b14 b15 (Or.inr ⟨rfl, hn⟩)
theorem cn_s181 (F : cn_F k p q e tn x6 x7 x8 x9 x10 x11) (hp : post 1 ()) (b12 : cn_B (cn_in k) x12) (b14 : cn_B (cn_pin k q) x14) (b15 : cn_B (cn_wr k p q) x15)  : wL_lawOf_181 post mc ms k p q e tn x6 x7 x8 x9 x10 x11 x12 x14 x15 kc ks := by
  unfold wL_lawOf_181
  exact br_c (fun h => cn_s196 F hp b12 b14 b15 (fun z => z.1 h)) (fun h => br_c (fun g => cn_s196 F hp b12 b14 b15 (fun z => z.2 g)) (fun g => cn_s197 F hp b12 b14 b15 (Or.inl ⟨rfl, h, g⟩)))
theorem cn_s180 (F : cn_F k p q e tn x6 x7 x8 x9 x10 x11) (hp : post 1 ()) (b12 : cn_B (cn_in k) x12) (b14 : cn_B (cn_pin k q) x14) (hn : ¬ cn_wr k p q) : wL_lawOf_180 post mc ms k p q e tn x6 x7 x8 x9 x10 x11 x12 x14 kc ks := by
  unfold wL_lawOf_180
  exact cn_s181 F hp b12 b14 (Or.inr ⟨rfl, hn⟩)
theorem cn_s159 (F : cn_F k p q e tn x6 x7 x8 x9 x10 x11) (hp : post 1 ()) (b12 : cn_B (cn_in k) x12) (b13 : cn_B (cn_pin k p) x13) (b14 : cn_B (cn_pin k q) x14)  : wL_lawOf_159 post mc ms k p q e tn x6 x7 x8 x9 x10 x11 x12 x13 x14 kc ks := by
  unfold wL_lawOf_159
  exact cn_bb b13 (fun h => cn_s180 F hp b12 b14 (fun z => h z.1)) (fun h => cn_bb b14 (fun g => cn_s180 F hp b12 b14 (fun z => g z.2.1)) (fun g => br_c (fun i => cn_s180 F hp b12 b14 (fun z => z.2.2 i)) (fun i => cn_s181 F hp b12 b14 (Or.inl ⟨rfl, h, g, i⟩))))
theorem cn_s158 (F : cn_F k p q e tn x6 x7 x8 x9 x10 x11) (hp : post 1 ()) (b12 : cn_B (cn_in k) x12) (b13 : cn_B (cn_pin k p) x13) (hn : ¬ cn_pin k q) : wL_lawOf_158 post mc ms k p q e tn x6 x7 x8 x9 x10 x11 x12 x13 kc ks := by
  unfold wL_lawOf_158
  exact cn_s159 F hp b12 b13 (Or.inr ⟨rfl, hn⟩)
theorem cn_s154 (F : cn_F k p q e tn x6 x7 x8 x9 x10 x11) (hp : post 1 ()) (b12 : cn_B (cn_in k) x12) (b13 : cn_B (cn_pin k p) x13) (hn : cn_pin k q) : wL_lawOf_154 post mc ms k p q e tn x6 x7 x8 x9 x10 x11 x12 x13 kc ks := by
  unfold wL_lawOf_154
  exact cn_s159 F hp b12 b13 (Or.inl ⟨rfl, hn⟩)
theorem cn_s130 (F : cn_F k p q e tn x6 x7 x8 x9 x10 x11) (hp : post 1 ()) (b12 : cn_B (cn_in k) x12) (b13 : cn_B (cn_pin k p) x13) (hl : ¬ (¬ q ≤ 29 ∧ q < 34)) : wL_lawOf_130 post mc ms k p q e tn x6 x7 x8 x9 x10 x11 x12 x13 kc ks := by
  unfold wL_lawOf_130
  exact cn_bb b12 (fun h => cn_s158 F hp b12 b13 (fun z => z.elim hl (fun y => h y.1))) (fun h => br_c (fun g => cn_s154 F hp b12 b13 (Or.inr ⟨h, Or.inl g⟩)) (fun g => br_c (fun i => cn_s158 F hp b12 b13 (fun z => z.elim hl (fun y => y.2.elim g (fun w => w.1 i)))) (fun i => br_c (fun a => cn_s154 F hp b12 b13 (Or.inr ⟨h, Or.inr ⟨i, Or.inl a⟩⟩)) (fun a => br_c (fun d => cn_s154 F hp b12 b13 (Or.inr ⟨h, Or.inr ⟨i, Or.inr d⟩⟩)) (fun d => cn_s158 F hp b12 b13 (fun z => z.elim hl (fun y => y.2.elim g (fun w => w.2.elim a d))))))))
theorem cn_s116 (F : cn_F k p q e tn x6 x7 x8 x9 x10 x11) (hp : post 1 ()) (b12 : cn_B (cn_in k) x12) (b13 : cn_B (cn_pin k p) x13)  : wL_lawOf_116 post mc ms k p q e tn x6 x7 x8 x9 x10 x11 x12 x13 kc ks := by
  unfold wL_lawOf_116
  exact br_c (fun h => cn_s130 F hp b12 b13 (fun z => z.1 h)) (fun h => br_c (fun g => cn_s154 F hp b12 b13 (Or.inl ⟨h, g⟩)) (fun g => cn_s130 F hp b12 b13 (fun z => g z.2)))
theorem cn_s115 (F : cn_F k p q e tn x6 x7 x8 x9 x10 x11) (hp : post 1 ()) (b12 : cn_B (cn_in k) x12) (hn : ¬ cn_pin k p) : wL_lawOf_115 post mc ms k p q e tn x6 x7 x8 x9 x10 x11 x12 kc ks := by
  unfold wL_lawOf_115
  exact cn_s116 F hp b12 (Or.inr ⟨rfl, hn⟩)
theorem cn_s111 (F : cn_F k p q e tn x6 x7 x8 x9 x10 x11) (hp : post 1 ()) (b12 : cn_B (cn_in k) x12) (hn : cn_pin k p) : wL_lawOf_111 post mc ms k p q e tn x6 x7 x8 x9 x10 x11 x12 kc ks := by
  unfold wL_lawOf_111
  exact cn_s116 F hp b12 (Or.inl ⟨rfl, hn⟩)
theorem cn_s87 (F : cn_F k p q e tn x6 x7 x8 x9 x10 x11) (hp : post 1 ()) (b12 : cn_B (cn_in k) x12) (hl : ¬ (¬ p ≤ 29 ∧ p < 34)) : wL_lawOf_87 post mc ms k p q e tn x6 x7 x8 x9 x10 x11 x12 kc ks := by
  unfold wL_lawOf_87
  exact cn_bb b12 (fun h => cn_s115 F hp b12 (fun z => z.elim hl (fun y => h y.1))) (fun h => br_c (fun g => cn_s111 F hp b12 (Or.inr ⟨h, Or.inl g⟩)) (fun g => br_c (fun i => cn_s115 F hp b12 (fun z => z.elim hl (fun y => y.2.elim g (fun w => w.1 i)))) (fun i => br_c (fun a => cn_s111 F hp b12 (Or.inr ⟨h, Or.inr ⟨i, Or.inl a⟩⟩)) (fun a => br_c (fun d => cn_s111 F hp b12 (Or.inr ⟨h, Or.inr ⟨i, Or.inr d⟩⟩)) (fun d => cn_s115 F hp b12 (fun z => z.elim hl (fun y => y.2.elim g (fun w => w.2.elim a d))))))))
theorem cn_s73 (F : cn_F k p q e tn x6 x7 x8 x9 x10 x11) (hp : post 1 ()) (b12 : cn_B (cn_in k) x12)  : wL_lawOf_73 post mc ms k p q e tn x6 x7 x8 x9 x10 x11 x12 kc ks := by
  unfold wL_lawOf_73
  exact br_c (fun h => cn_s87 F hp b12 (fun z => z.1 h)) (fun h => br_c (fun g => cn_s111 F hp b12 (Or.inl ⟨h, g⟩)) (fun g => cn_s87 F hp b12 (fun z => g z.2)))
theorem cn_s72 (F : cn_F k p q e tn x6 x7 x8 x9 x10 x11) (hp : post 1 ())  (hn : ¬ cn_in k) : wL_lawOf_72 post mc ms k p q e tn x6 x7 x8 x9 x10 x11 kc ks := by
  unfold wL_lawOf_72
  exact cn_s73 F hp (Or.inr ⟨rfl, hn⟩)
end
end
section
/-! ===== the law ===== -/
theorem cn_lawOf {post : Int32 → St0 → Prop} {k p q e tn : Int32} (hp : post 1 ()) : wpL_lawOf post 9 4493 () k p q e tn := by
  unfold wpL_lawOf
  refine ⟨by omega, by omega, 8, 4478, by omega, by omega, ?_⟩
  refine cn_init (by omega) (by omega) (fun a2 h2 => ?_)
  refine cn_cell (fun r6 c b1 hc h6 h6' => ?_)
  refine cn_join hc h2 (fun r7 b2 h7 h7' hM => ?_)
  refine cn_steps hc hM (fun b3 b4 b5 h3 h5 => ?_)
  refine cn_walk h3 h5 (fun r9 h9 => ?_)
  refine cn_reach hc h5 (fun r10 b7 b8 h10 => ?_)
  refine cn_cut hc hM (fun r11 f d2 h11 => ?_)
  have F : cn_F k p q e tn r6 r7 0 r9 r10 r11 := ⟨⟨h6, h6'⟩, ⟨h7, h7'⟩, rfl, h9, h10, h11⟩
  exact br_c (fun h => cn_s72 F hp (fun z => z.1 h)) (fun h => br_c (fun g => cn_s72 F hp (fun z => z.2 g)) (fun g => cn_s73 F hp (Or.inl ⟨rfl, h, g⟩)))
theorem cn_cellAt {post : Int32 → Prop} {L : Nat} {xs : Nat → Int32} {u : St0} {i : Nat} (hL : L ≤ 5) (hi : i < 5) (H : ∀ r, post r) : wpL_cellAt post L xs u (nI i) := by
  unfold wpL_cellAt
  exact pk_le L i (fun _ => H _) (fun z => ⟨pk_in i L z, H _⟩)
theorem i_vc (xs : Nat → Int32) (L : Nat) (hL : L ≤ 5) : wpL_law (fun r => r = 1) L xs := by
  unfold wpL_law
  exact cn_cellAt (i := 0) hL (by omega) (fun r1 => cn_cellAt (i := 1) hL (by omega) (fun r2 => cn_cellAt (i := 2) hL (by omega) (fun r3 => cn_cellAt (i := 3) hL (by omega) (fun r4 => cn_cellAt (i := 4) hL (by omega) (fun r5 => ⟨9, 4493, by omega, by omega, cn_lawOf rfl⟩)))))
end
