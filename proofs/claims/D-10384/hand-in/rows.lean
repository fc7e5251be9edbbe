section
/-! the pure picture of the nesting: depth, places on the stack, ends, elses -/
abbrev du_T : Type := Nat × (Nat → Nat) × (Nat → Int32) × (Nat → Int32)
abbrev du_o (k : Int32) : Prop := k = 2 ∨ k = 4 ∨ k = 5
def du_st (k : Int32) (p : Nat) (t : du_T) : du_T :=
  if du_o k then (t.1 + 1, va_up t.2.1 t.1 p, upd t.2.2.1 p (-1), upd t.2.2.2 p (-1))
  else if k = 3 then (t.1, t.2.1, upd t.2.2.1 p (-1), upd (upd t.2.2.2 p (-1)) (t.2.1 (t.1 - 1)) (nI p))
  else if k = 6 then (t.1 - 1, t.2.1, upd (upd t.2.2.1 p (-1)) (t.2.1 (t.1 - 1)) (nI p), upd t.2.2.2 p (-1))
  else (t.1, t.2.1, upd t.2.2.1 p (-1), upd t.2.2.2 p (-1))
def du_sc (a : Nat → Int32) : Nat → du_T
  | 0 => (0, fun _ => 0, fun _ => 0, fun _ => 0)
  | p + 1 => du_st (a p) p (du_sc a p)
def du_lp (a : Nat → Int32) (S : Nat → Nat) : Nat → Int32
  | 0 => -1
  | d + 1 => if a (S d) = 2 then du_lp a S d else nI (S d)
def du_op (a : Nat → Int32) (p : Nat) : Int32 :=
  if a p = 3 ∨ a p = 6 then nI ((du_sc a p).2.1 ((du_sc a p).1 - 1))
  else if a p = 7 ∨ a p = 8 then du_lp a (du_sc a p).2.1 (du_sc a p).1 else -1
def du_ok (a : Nat → Int32) (p : Nat) : Prop :=
  (∃ k, k ≤ 9 ∧ a p = nI k) ∧
  (a p = 3 → 0 < (du_sc a p).1 ∧ a ((du_sc a p).2.1 ((du_sc a p).1 - 1)) = 2 ∧ (du_sc a p).2.2.2 ((du_sc a p).2.1 ((du_sc a p).1 - 1)) = -1) ∧
  (a p = 6 → 0 < (du_sc a p).1) ∧
  (a p = 7 ∨ a p = 8 → ∃ i, i < (du_sc a p).1 ∧ ¬ a ((du_sc a p).2.1 i) = 2)
def du_G (a : Nat → Int32) (n : Nat) : Prop := (∀ p, p < n → du_ok a p) ∧ (du_sc a n).1 = 0

theorem du_vs {α : Type} {f : Nat → α} {k : Nat} {v : α} : va_up f k v k = v := if_pos rfl
theorem du_vn {α : Type} {f : Nat → α} {k j : Nat} {v : α} (h : j ≠ k) : va_up f k v j = f j := if_neg h
theorem du_k10 {x : Int32} (h : ∃ k, k ≤ 9 ∧ x = nI k) : x = 0 ∨ x = 1 ∨ x = 2 ∨ x = 3 ∨ x = 4 ∨ x = 5 ∨ x = 6 ∨ x = 7 ∨ x = 8 ∨ x = 9 := by
  obtain ⟨k, hk, rfl⟩ := h
  have e : k = 0 ∨ k = 1 ∨ k = 2 ∨ k = 3 ∨ k = 4 ∨ k = 5 ∨ k = 6 ∨ k = 7 ∨ k = 8 ∨ k = 9 := by omega
  rcases e with rfl | rfl | rfl | rfl | rfl | rfl | rfl | rfl | rfl | rfl <;> decide +kernel

/-! the step by the kind -/
theorem du_st_o {k : Int32} (p : Nat) (t : du_T) (h : du_o k) : du_st k p t = (t.1 + 1, va_up t.2.1 t.1 p, upd t.2.2.1 p (-1), upd t.2.2.2 p (-1)) := if_pos h
theorem du_st_3 (p : Nat) (t : du_T) : du_st 3 p t = (t.1, t.2.1, upd t.2.2.1 p (-1), upd (upd t.2.2.2 p (-1)) (t.2.1 (t.1 - 1)) (nI p)) := by
  unfold du_st
  rw [if_neg (by decide), if_pos rfl]
theorem du_st_6 (p : Nat) (t : du_T) : du_st 6 p t = (t.1 - 1, t.2.1, upd (upd t.2.2.1 p (-1)) (t.2.1 (t.1 - 1)) (nI p), upd t.2.2.2 p (-1)) := by
  unfold du_st
  rw [if_neg (by decide), if_neg (by decide), if_pos rfl]
theorem du_st_e {k : Int32} (p : Nat) (t : du_T) (h : ¬ du_o k) (h3 : ¬ k = 3) (h6 : ¬ k = 6) : du_st k p t = (t.1, t.2.1, upd t.2.2.1 p (-1), upd t.2.2.2 p (-1)) := by
  unfold du_st
  rw [if_neg h, if_neg h3, if_neg h6]

/-! kinds that differ in SET and USE alone -/
def du_q (x y : Int32) : Prop := x = y ∨ ((x = 0 ∨ x = 1) ∧ (y = 0 ∨ y = 1))
theorem du_q_c {x y c : Int32} (h : du_q x y) (h0 : ¬ c = 0) (h1 : ¬ c = 1) : x = c ↔ y = c := by
  rcases h with h | ⟨h, h'⟩
  · rw [h]
  · constructor
    · intro e
      rcases h with z | z
      · exact absurd (e.symm.trans z) h0
      · exact absurd (e.symm.trans z) h1
    · intro e
      rcases h' with z | z
      · exact absurd (e.symm.trans z) h0
      · exact absurd (e.symm.trans z) h1
theorem du_q_01 {x : Int32} (h : x = 0 ∨ x = 1) (p : Nat) (t : du_T) : du_st x p t = (t.1, t.2.1, upd t.2.2.1 p (-1), upd t.2.2.2 p (-1)) := by
  rcases h with rfl | rfl
  · exact du_st_e p t (by decide) (by decide) (by decide)
  · exact du_st_e p t (by decide) (by decide) (by decide)
theorem du_q_st {x y : Int32} (h : du_q x y) (p : Nat) (t : du_T) : du_st x p t = du_st y p t := by
  rcases h with h | ⟨h, h'⟩
  · rw [h]
  · rw [du_q_01 h, du_q_01 h']
theorem du_q_sc {a b : Nat → Int32} : ∀ {p : Nat}, (∀ q, q < p → du_q (a q) (b q)) → du_sc a p = du_sc b p
  | 0, _ => rfl
  | p + 1, h => by
    show du_st (a p) p (du_sc a p) = du_st (b p) p (du_sc b p)
    rw [du_q_sc (fun q hq => h q (Nat.lt_succ_of_lt hq)), du_q_st (h p (Nat.lt_succ_self p))]
theorem du_q_lp {a b : Nat → Int32} {S : Nat → Nat} : ∀ {d : Nat}, (∀ i, i < d → du_q (a (S i)) (b (S i))) → du_lp a S d = du_lp b S d
  | 0, _ => rfl
  | d + 1, h => by
    have e := du_q_lp (fun i hi => h i (Nat.lt_succ_of_lt hi))
    have c := du_q_c (c := 2) (h d (Nat.lt_succ_self d)) (by decide) (by decide)
    show (if a (S d) = 2 then du_lp a S d else nI (S d)) = (if b (S d) = 2 then du_lp b S d else nI (S d))
    by_cases z : a (S d) = 2
    · rw [if_pos z, if_pos (c.mp z), e]
    · rw [if_neg z, if_neg (fun w => z (c.mpr w))]

/-! what always holds of the picture -/
def du_e (p : Nat) (x : Int32) : Prop := x = -1 ∨ ∃ e, e < p ∧ x = nI e
def du_J (a : Nat → Int32) (p : Nat) (t : du_T) : Prop :=
  t.1 ≤ p ∧ (∀ i, i < t.1 → t.2.1 i < p ∧ du_o (a (t.2.1 i))) ∧ (∀ i j, i < j → j < t.1 → t.2.1 i < t.2.1 j) ∧
  (∀ q, q < p → du_e p (t.2.2.1 q)) ∧ (∀ q, q < p → du_e p (t.2.2.2 q)) ∧
  (∀ q, q < p → du_o (a q) → (∃ i, i < t.1 ∧ t.2.1 i = q) ∨ ∃ e, e < p ∧ t.2.2.1 q = nI e)
theorem du_e_s {p : Nat} {x : Int32} (h : du_e p x) : du_e (p + 1) x := by
  rcases h with h | ⟨e, he, hx⟩
  · exact Or.inl h
  · exact Or.inr ⟨e, by omega, hx⟩
theorem du_e_u {p : Nat} {f : Nat → Int32} {x : Int32} (h : ∀ q, q < p → du_e p (f q)) (hx : du_e (p + 1) x) : ∀ q, q < p + 1 → du_e (p + 1) (upd f p x q) := by
  intro q hq
  by_cases z : q = p
  · rw [z, pk_us]
    exact hx
  · rw [pk_un z]
    exact du_e_s (h q (by omega))
theorem du_e_v {p k : Nat} {f : Nat → Int32} {x : Int32} (h : ∀ q, q < p → du_e p (f q)) (hx : du_e p x) : ∀ q, q < p → du_e p (upd f k x q) := by
  intro q hq
  by_cases z : q = k
  · rw [z, pk_us]
    exact hx
  · rw [pk_un z]
    exact h q hq
theorem du_J_st {a : Nat → Int32} {p : Nat} {t : du_T} (h : du_J a p t) : du_J a (p + 1) (du_st (a p) p t) := by
  obtain ⟨d, S, EN, EL⟩ := t
  obtain ⟨h1, h2, h3, h4, h5, h6⟩ := h
  have h1 : d ≤ p := h1
  have h2 : ∀ i, i < d → S i < p ∧ du_o (a (S i)) := h2
  have h3 : ∀ i j, i < j → j < d → S i < S j := h3
  have h4 : ∀ q, q < p → du_e p (EN q) := h4
  have h5 : ∀ q, q < p → du_e p (EL q) := h5
  have h6 : ∀ q, q < p → du_o (a q) → (∃ i, i < d ∧ S i = q) ∨ ∃ e, e < p ∧ EN q = nI e := h6
  have m : du_e (p + 1) (-1) := Or.inl rfl
  have mp : du_e (p + 1) (nI p) := Or.inr ⟨p, by omega, rfl⟩
  have g4 := du_e_u (x := -1) h4 m
  have g5 := du_e_u (x := -1) h5 m
  by_cases ho : du_o (a p)
  · rw [du_st_o p _ ho]
    refine ⟨?_, ?_, ?_, g4, g5, ?_⟩
    · show d + 1 ≤ p + 1
      omega
    · show ∀ i, i < d + 1 → va_up S d p i < p + 1 ∧ du_o (a (va_up S d p i))
      intro i hi
      by_cases z : i = d
      · rw [z, du_vs]
        exact ⟨by omega, ho⟩
      · rw [du_vn z]
        have := h2 i (by omega)
        exact ⟨by omega, this.2⟩
    · show ∀ i j, i < j → j < d + 1 → va_up S d p i < va_up S d p j
      intro i j hij hj
      have zi : i ≠ d := by omega
      rw [du_vn zi]
      by_cases z : j = d
      · rw [z, du_vs]
        exact (h2 i (by omega)).1
      · rw [du_vn z]
        exact h3 i j hij (by omega)
    · show ∀ q, q < p + 1 → du_o (a q) → (∃ i, i < d + 1 ∧ va_up S d p i = q) ∨ ∃ e, e < p + 1 ∧ upd EN p (-1) q = nI e
      intro q hq hqo
      by_cases z : q = p
      · exact Or.inl ⟨d, by omega, by rw [du_vs, z]⟩
      · rcases h6 q (by omega) hqo with ⟨i, hi, e⟩ | ⟨e, he, hx⟩
        · exact Or.inl ⟨i, by omega, by rw [du_vn (by omega)]; exact e⟩
        · exact Or.inr ⟨e, by omega, by rw [pk_un z]; exact hx⟩
  · have k1 : d ≤ p + 1 := by omega
    have k2 : ∀ i, i < d → S i < p + 1 ∧ du_o (a (S i)) := fun i hi => ⟨by have := (h2 i hi).1; omega, (h2 i hi).2⟩
    have k6 : ∀ q, q < p + 1 → du_o (a q) → (∃ i, i < d ∧ S i = q) ∨ ∃ e, e < p + 1 ∧ upd EN p (-1) q = nI e := by
      intro q hq hqo
      by_cases z : q = p
      · exact absurd (z ▸ hqo : du_o (a p)) ho
      · rcases h6 q (by omega) hqo with ⟨i, hi, e⟩ | ⟨e, he, hx⟩
        · exact Or.inl ⟨i, hi, e⟩
        · exact Or.inr ⟨e, by omega, by rw [pk_un z]; exact hx⟩
    by_cases e3 : a p = 3
    · rw [e3, du_st_3]
      exact ⟨k1, k2, h3, g4, du_e_v g5 mp, k6⟩
    · by_cases e6 : a p = 6
      · rw [e6, du_st_6]
        refine ⟨?_, ?_, ?_, du_e_v g4 mp, g5, ?_⟩
        · show d - 1 ≤ p + 1
          omega
        · show ∀ i, i < d - 1 → S i < p + 1 ∧ du_o (a (S i))
          exact fun i hi => k2 i (by omega)
        · show ∀ i j, i < j → j < d - 1 → S i < S j
          exact fun i j hij hj => h3 i j hij (by omega)
        · show ∀ q, q < p + 1 → du_o (a q) → (∃ i, i < d - 1 ∧ S i = q) ∨ ∃ e, e < p + 1 ∧ upd (upd EN p (-1)) (S (d - 1)) (nI p) q = nI e
          intro q hq hqo
          by_cases z : q = S (d - 1)
          · exact Or.inr ⟨p, by omega, by rw [z, pk_us]⟩
          · rw [pk_un z]
            rcases k6 q hq hqo with ⟨i, hi, e⟩ | r
            · have hne : i ≠ d - 1 := fun w => z (by rw [← w]; exact e.symm)
              exact Or.inl ⟨i, by omega, e⟩
            · exact Or.inr r
      · rw [du_st_e p _ ho e3 e6]
        exact ⟨k1, k2, h3, g4, g5, k6⟩
theorem du_Jp (a : Nat → Int32) : ∀ p, du_J a p (du_sc a p)
  | 0 => ⟨Nat.le_refl 0, fun i hi => absurd hi (Nat.not_lt_zero i), fun i j _ hj => absurd hj (Nat.not_lt_zero j), fun q hq => absurd hq (Nat.not_lt_zero q), fun q hq => absurd hq (Nat.not_lt_zero q), fun q hq => absurd hq (Nat.not_lt_zero q)⟩
  | p + 1 => du_J_st (du_Jp a p)

/-! the innermost loop -/
theorem du_lp_in {a : Nat → Int32} {S : Nat → Nat} : ∀ {d : Nat}, (∃ i, i < d ∧ ¬ a (S i) = 2) → ∃ i, i < d ∧ du_lp a S d = nI (S i) ∧ ¬ a (S i) = 2
  | 0, ⟨i, hi, _⟩ => absurd hi (Nat.not_lt_zero i)
  | d + 1, ⟨i, hi, hn⟩ => by
    by_cases z : a (S d) = 2
    · have hne : i ≠ d := fun w => hn (w ▸ z)
      obtain ⟨j, hj, e, e'⟩ := du_lp_in (a := a) (S := S) (d := d) ⟨i, by omega, hn⟩
      exact ⟨j, by omega, by show (if a (S d) = 2 then du_lp a S d else nI (S d)) = _; rw [if_pos z]; exact e, e'⟩
    · exact ⟨d, by omega, by show (if a (S d) = 2 then du_lp a S d else nI (S d)) = _; rw [if_neg z], z⟩

/-! the opener of a token -/
theorem du_op_36 {a : Nat → Int32} {p : Nat} (h : a p = 3 ∨ a p = 6) : du_op a p = nI ((du_sc a p).2.1 ((du_sc a p).1 - 1)) := if_pos h
theorem du_op_78 {a : Nat → Int32} {p : Nat} (h : a p = 7 ∨ a p = 8) : du_op a p = du_lp a (du_sc a p).2.1 (du_sc a p).1 := by
  unfold du_op
  rw [if_neg (by rcases h with h | h <;> rw [h] <;> decide), if_pos h]
theorem du_op_e {a : Nat → Int32} {p : Nat} (h : ¬ (a p = 3 ∨ a p = 6)) (h' : ¬ (a p = 7 ∨ a p = 8)) : du_op a p = -1 := by
  unfold du_op
  rw [if_neg h, if_neg h']
theorem du_op_in {a : Nat → Int32} {p : Nat} (hk : du_ok a p) (h : a p = 3 ∨ a p = 6 ∨ a p = 7 ∨ a p = 8) : ∃ s, s < p ∧ du_op a p = nI s ∧ du_o (a s) := by
  obtain ⟨_, k3, k6, k7⟩ := hk
  have J := du_Jp a p
  by_cases z : a p = 3 ∨ a p = 6
  · have hd : 0 < (du_sc a p).1 := by
      rcases z with z | z
      · exact (k3 z).1
      · exact k6 z
    have j := J.2.1 ((du_sc a p).1 - 1) (by omega)
    exact ⟨_, j.1, du_op_36 z, j.2⟩
  · have z' : a p = 7 ∨ a p = 8 := by
      rcases h with h | h | h | h
      · exact absurd (Or.inl h) z
      · exact absurd (Or.inr h) z
      · exact Or.inl h
      · exact Or.inr h
    obtain ⟨i, hi, e, _⟩ := du_lp_in (k7 z')
    have j := J.2.1 i hi
    exact ⟨_, j.1, (du_op_78 z').trans e, j.2⟩

/-! the whole script of kinds under SET and USE exchanged -/
theorem du_q_ok {a b : Nat → Int32} {p : Nat} (h : ∀ q, q < p + 1 → du_q (a q) (b q)) (hk : du_ok a p) : du_ok b p := by
  have es : du_sc a p = du_sc b p := du_q_sc (fun q hq => h q (by omega))
  have hp := h p (by omega)
  have J := du_Jp a p
  obtain ⟨k0, k3, k6, k7⟩ := hk
  have c3 := du_q_c (c := 3) hp (by decide) (by decide)
  have c6 := du_q_c (c := 6) hp (by decide) (by decide)
  have c7 := du_q_c (c := 7) hp (by decide) (by decide)
  have c8 := du_q_c (c := 8) hp (by decide) (by decide)
  refine ⟨?_, ?_, ?_, ?_⟩
  · rcases hp with e | ⟨_, e | e⟩
    · rw [← e]
      exact k0
    · exact ⟨0, by omega, e⟩
    · exact ⟨1, by omega, e⟩
  · intro z
    rw [← es]
    obtain ⟨g1, g2, g3⟩ := k3 (c3.mpr z)
    have j := J.2.1 ((du_sc a p).1 - 1) (by omega)
    exact ⟨g1, (du_q_c (c := 2) (h _ (by omega)) (by decide) (by decide)).mp g2, g3⟩
  · intro z
    rw [← es]
    exact k6 (c6.mpr z)
  · intro z
    rw [← es]
    obtain ⟨i, hi, g⟩ := k7 (by rcases z with z | z; exact Or.inl (c7.mpr z); exact Or.inr (c8.mpr z))
    have j := J.2.1 i hi
    exact ⟨i, hi, fun w => g ((du_q_c (c := 2) (h _ (by omega)) (by decide) (by decide)).mpr w)⟩
theorem du_q_G {a b : Nat → Int32} {n : Nat} (h : ∀ q, q < n → du_q (a q) (b q)) (hG : du_G a n) : du_G b n :=
  ⟨fun p hp => du_q_ok (fun q hq => h q (by omega)) (hG.1 p hp), by rw [← du_q_sc h]; exact hG.2⟩
theorem du_q_op {a b : Nat → Int32} {p : Nat} (h : ∀ q, q < p + 1 → du_q (a q) (b q)) : du_op a p = du_op b p := by
  have es : du_sc a p = du_sc b p := du_q_sc (fun q hq => h q (by omega))
  have hp := h p (by omega)
  have J := du_Jp a p
  have c3 := du_q_c (c := 3) hp (by decide) (by decide)
  have c6 := du_q_c (c := 6) hp (by decide) (by decide)
  have c7 := du_q_c (c := 7) hp (by decide) (by decide)
  have c8 := du_q_c (c := 8) hp (by decide) (by decide)
  by_cases z : a p = 3 ∨ a p = 6
  · rw [du_op_36 z, du_op_36 (by rcases z with z | z; exact Or.inl (c3.mp z); exact Or.inr (c6.mp z)), es]
  · have z' : ¬ (b p = 3 ∨ b p = 6) := fun w => z (by rcases w with w | w; exact Or.inl (c3.mpr w); exact Or.inr (c6.mpr w))
    by_cases y : a p = 7 ∨ a p = 8
    · rw [du_op_78 y, du_op_78 (by rcases y with y | y; exact Or.inl (c7.mp y); exact Or.inr (c8.mp y)), ← es]
      exact du_q_lp (fun i hi => h _ (by have := (J.2.1 i hi).1; omega))
    · have y' : ¬ (b p = 7 ∨ b p = 8) := fun w => y (by rcases w with w | w; exact Or.inl (c7.mpr w); exact Or.inr (c8.mpr w))
      rw [du_op_e z y, du_op_e z' y']
end
section
/-! sets of variables, by bits -/
def du_s (x y : Int32) : Prop := ∀ i, x.toBitVec.getLsbD i = true → y.toBitVec.getLsbD i = true
theorem du_s_r (x : Int32) : du_s x x := fun _ h => h
theorem du_s_a {x y x' y' : Int32} (h : du_s x y) (h' : du_s x' y') : du_s (x &&& x') (y &&& y') := by
  intro i z
  rw [Int32.toBitVec_and, BitVec.getLsbD_and, Bool.and_eq_true] at z ⊢
  exact ⟨h i z.1, h' i z.2⟩
theorem du_s_o {x y b : Int32} (h : du_s x y) : du_s (x ||| b) (y ||| b) := by
  intro i z
  rw [Int32.toBitVec_or, BitVec.getLsbD_or, Bool.or_eq_true] at z ⊢
  rcases z with z | z
  · exact Or.inl (h i z)
  · exact Or.inr z
theorem du_s_w {x y b : Int32} (h : du_s x y) : du_s x (y ||| b) := by
  intro i z
  rw [Int32.toBitVec_or, BitVec.getLsbD_or, Bool.or_eq_true]
  exact Or.inl (h i z)
theorem du_m1b : ∀ i, i < 32 → (-1 : Int32).toBitVec.getLsbD i = true := by decide +kernel
theorem du_s_z {x y : Int32} (h : du_s x y) : x &&& (y ^^^ (-1)) = 0 := by
  apply Int32.toBitVec_inj.mp
  apply BitVec.eq_of_getLsbD_eq
  intro i hi
  have z0 : (0 : Int32).toBitVec.getLsbD i = false := BitVec.getLsbD_zero
  rw [Int32.toBitVec_and, Int32.toBitVec_xor, BitVec.getLsbD_and, BitVec.getLsbD_xor, du_m1b i hi, z0]
  cases hx : x.toBitVec.getLsbD i
  · rfl
  · rw [h i hx]
    rfl
theorem du_s_u {f g : Nat → Int32} {o : Nat} {x y : Int32} (h : ∀ q, du_s (f q) (g q)) (hx : du_s x y) : ∀ q, du_s (upd f o x q) (upd g o y q) := by
  intro q
  by_cases z : q = o
  · rw [z, pk_us, pk_us]
    exact hx
  · rw [pk_un z, pk_un z]
    exact h q

/-! the pure picture of the pass forward: now, live, before, comes, meets, meetsAny -/
abbrev du_F : Type := Int32 × Bool × (Nat → Int32) × (Nat → Bool) × (Nat → Int32) × (Nat → Bool)
def du_mt (o : Nat) (s : du_F) : du_F := if s.2.1 = true then (s.1, s.2.1, s.2.2.1, s.2.2.2.1, upd s.2.2.2.2.1 o (s.2.2.2.2.1 o &&& s.1), va_up s.2.2.2.2.2 o true) else s
def du_tb (o : Nat) (s : du_F) : du_F := (s.2.2.1 o, s.2.2.2.1 o, s.2.2.1, s.2.2.2.1, s.2.2.2.2.1, s.2.2.2.2.2)
def du_tm (o : Nat) (s : du_F) : du_F := (s.2.2.2.2.1 o, s.2.2.2.2.2 o, s.2.2.1, s.2.2.2.1, s.2.2.2.2.1, s.2.2.2.2.2)
def du_rc (p : Nat) (s : du_F) : du_F := (s.1, s.2.1, upd s.2.2.1 p s.1, va_up s.2.2.2.1 p s.2.1, s.2.2.2.2.1, s.2.2.2.2.2)
def du_ct (s : du_F) : du_F := (63, false, s.2.2.1, s.2.2.2.1, s.2.2.2.2.1, s.2.2.2.2.2)
def du_on (p : Nat) (s : du_F) : du_F := (s.1, s.2.1, s.2.2.1, s.2.2.2.1, upd s.2.2.2.2.1 p 63, va_up s.2.2.2.2.2 p false)
def du_se (b : Int32) (s : du_F) : du_F := (if s.2.1 = true then s.1 ||| b else s.1, s.2.1, s.2.2.1, s.2.2.2.1, s.2.2.2.2.1, s.2.2.2.2.2)
def du_fs (k b : Int32) (o : Nat) (ko e : Int32) (p : Nat) (s : du_F) : du_F :=
  if k = 6 then
    if ko = 2 then du_rc p (du_tm o (if 0 ≤ e then du_mt o s else du_mt o (du_tb o (du_mt o s))))
    else du_tm o (if ko = 4 then du_mt o (du_tb o (du_ct (du_rc p s))) else du_ct (du_rc p s))
  else if k = 0 then du_se b (du_rc p s)
  else if du_o k then du_on p (du_rc p s)
  else if k = 3 then du_tb o (du_mt o (du_rc p s))
  else if k = 7 then du_ct (du_mt o (du_rc p s))
  else if k = 8 ∨ k = 9 then du_ct (du_rc p s)
  else du_rc p s
def du_fr (a v : Nat → Int32) (n : Nat) : Nat → du_F
  | 0 => (0, true, fun _ => 0, fun _ => false, fun _ => 0, fun _ => false)
  | p + 1 => du_fs (a p) ((1 : Int32) <<< (v p &&& 31)) (du_op a p).toNatClampNeg (a (du_op a p).toNatClampNeg) ((du_sc a n).2.2.2 (du_op a p).toNatClampNeg) p (du_fr a v n p)
def du_bf (a v : Nat → Int32) (n q : Nat) : Int32 := (du_fr a v n n).2.2.1 q
def du_cm (a v : Nat → Int32) (n q : Nat) : Bool := (du_fr a v n n).2.2.2.1 q
def du_sv (a v : Nat → Int32) (n q : Nat) : Int32 := if du_cm a v n q = true then du_bf a v n q else 63

/-! the step by the kind -/
theorem du_fs_6i {b : Int32} {o : Nat} {e : Int32} {p : Nat} {s : du_F} (h : 0 ≤ e) : du_fs 6 b o 2 e p s = du_rc p (du_tm o (du_mt o s)) := by
  unfold du_fs
  rw [if_pos rfl, if_pos rfl, if_pos h]
theorem du_fs_6n {b : Int32} {o : Nat} {e : Int32} {p : Nat} {s : du_F} (h : ¬ 0 ≤ e) : du_fs 6 b o 2 e p s = du_rc p (du_tm o (du_mt o (du_tb o (du_mt o s)))) := by
  unfold du_fs
  rw [if_pos rfl, if_pos rfl, if_neg h]
theorem du_fs_64 {b : Int32} {o : Nat} {e : Int32} {p : Nat} {s : du_F} : du_fs 6 b o 4 e p s = du_tm o (du_mt o (du_tb o (du_ct (du_rc p s)))) := by
  unfold du_fs
  rw [if_pos rfl, if_neg (by decide), if_pos rfl]
theorem du_fs_65 {b : Int32} {o : Nat} {e : Int32} {p : Nat} {s : du_F} : du_fs 6 b o 5 e p s = du_tm o (du_ct (du_rc p s)) := by
  unfold du_fs
  rw [if_pos rfl, if_neg (by decide), if_neg (by decide)]
theorem du_fs_0 {b : Int32} {o : Nat} {ko e : Int32} {p : Nat} {s : du_F} : du_fs 0 b o ko e p s = du_se b (du_rc p s) := by
  unfold du_fs
  rw [if_neg (by decide), if_pos rfl]
theorem du_fs_o {k b : Int32} {o : Nat} {ko e : Int32} {p : Nat} {s : du_F} (h : du_o k) : du_fs k b o ko e p s = du_on p (du_rc p s) := by
  unfold du_fs
  rw [if_neg (by rcases h with h | h | h <;> rw [h] <;> decide), if_neg (by rcases h with h | h | h <;> rw [h] <;> decide), if_pos h]
theorem du_fs_3 {b : Int32} {o : Nat} {ko e : Int32} {p : Nat} {s : du_F} : du_fs 3 b o ko e p s = du_tb o (du_mt o (du_rc p s)) := by
  unfold du_fs
  rw [if_neg (by decide), if_neg (by decide), if_neg (by decide), if_pos rfl]
theorem du_fs_7 {b : Int32} {o : Nat} {ko e : Int32} {p : Nat} {s : du_F} : du_fs 7 b o ko e p s = du_ct (du_mt o (du_rc p s)) := by
  unfold du_fs
  rw [if_neg (by decide), if_neg (by decide), if_neg (by decide), if_neg (by decide), if_pos rfl]
theorem du_fs_89 {k b : Int32} {o : Nat} {ko e : Int32} {p : Nat} {s : du_F} (h : k = 8 ∨ k = 9) : du_fs k b o ko e p s = du_ct (du_rc p s) := by
  unfold du_fs
  rcases h with rfl | rfl
  · rw [if_neg (by decide), if_neg (by decide), if_neg (by decide), if_neg (by decide), if_neg (by decide), if_pos (by decide)]
  · rw [if_neg (by decide), if_neg (by decide), if_neg (by decide), if_neg (by decide), if_neg (by decide), if_pos (by decide)]
theorem du_fs_1 {b : Int32} {o : Nat} {ko e : Int32} {p : Nat} {s : du_F} : du_fs 1 b o ko e p s = du_rc p s := by
  unfold du_fs
  rw [if_neg (by decide), if_neg (by decide), if_neg (by decide), if_neg (by decide), if_neg (by decide), if_neg (by decide)]
theorem du_fs_ko {k b : Int32} {o : Nat} {ko ko' e e' : Int32} {p : Nat} {s : du_F} (h : ¬ k = 6) : du_fs k b o ko e p s = du_fs k b o ko' e' p s := by
  unfold du_fs
  rw [if_neg h, if_neg h]

/-! the order between two runs -/
def du_M (s t : du_F) : Prop := du_s s.1 t.1 ∧ s.2.1 = t.2.1 ∧ (∀ q, du_s (s.2.2.1 q) (t.2.2.1 q)) ∧ s.2.2.2.1 = t.2.2.2.1 ∧ (∀ q, du_s (s.2.2.2.2.1 q) (t.2.2.2.2.1 q)) ∧ s.2.2.2.2.2 = t.2.2.2.2.2
theorem du_M_mt {s t : du_F} (o : Nat) (h : du_M s t) : du_M (du_mt o s) (du_mt o t) := by
  obtain ⟨n1, l1, b1, c1, m1, y1⟩ := s
  obtain ⟨n2, l2, b2, c2, m2, y2⟩ := t
  obtain ⟨h1, h2, h3, h4, h5, h6⟩ := h
  have h2 : l1 = l2 := h2
  have h4 : c1 = c2 := h4
  have h6 : y1 = y2 := h6
  subst h2 h4 h6
  cases l1
  · exact ⟨h1, rfl, h3, rfl, h5, rfl⟩
  · exact ⟨h1, rfl, h3, rfl, du_s_u h5 (du_s_a (h5 o) h1), rfl⟩
theorem du_M_tb {s t : du_F} (o : Nat) (h : du_M s t) : du_M (du_tb o s) (du_tb o t) := ⟨h.2.2.1 o, congrFun h.2.2.2.1 o, h.2.2.1, h.2.2.2.1, h.2.2.2.2.1, h.2.2.2.2.2⟩
theorem du_M_tm {s t : du_F} (o : Nat) (h : du_M s t) : du_M (du_tm o s) (du_tm o t) := ⟨h.2.2.2.2.1 o, congrFun h.2.2.2.2.2 o, h.2.2.1, h.2.2.2.1, h.2.2.2.2.1, h.2.2.2.2.2⟩
theorem du_M_rc {s t : du_F} (p : Nat) (h : du_M s t) : du_M (du_rc p s) (du_rc p t) :=
  ⟨h.1, h.2.1, du_s_u h.2.2.1 h.1, by show va_up s.2.2.2.1 p s.2.1 = va_up t.2.2.2.1 p t.2.1; rw [h.2.2.2.1, h.2.1], h.2.2.2.2.1, h.2.2.2.2.2⟩
theorem du_M_ct {s t : du_F} (h : du_M s t) : du_M (du_ct s) (du_ct t) := ⟨du_s_r 63, rfl, h.2.2.1, h.2.2.2.1, h.2.2.2.2.1, h.2.2.2.2.2⟩
theorem du_M_on {s t : du_F} (p : Nat) (h : du_M s t) : du_M (du_on p s) (du_on p t) :=
  ⟨h.1, h.2.1, h.2.2.1, h.2.2.2.1, du_s_u h.2.2.2.2.1 (du_s_r 63), by show va_up s.2.2.2.2.2 p false = va_up t.2.2.2.2.2 p false; rw [h.2.2.2.2.2]⟩
theorem du_M_se {s t : du_F} (b : Int32) (h : du_M s t) : du_M (du_se b s) (du_se b t) := by
  refine ⟨?_, h.2.1, h.2.2.1, h.2.2.2.1, h.2.2.2.2.1, h.2.2.2.2.2⟩
  show du_s (if s.2.1 = true then s.1 ||| b else s.1) (if t.2.1 = true then t.1 ||| b else t.1)
  rw [← h.2.1]
  by_cases z : s.2.1 = true
  · rw [if_pos z, if_pos z]
    exact du_s_o h.1
  · rw [if_neg z, if_neg z]
    exact h.1
theorem du_M_sw {s t : du_F} (b : Int32) (h : du_M s t) : du_M s (du_se b t) := by
  refine ⟨?_, h.2.1, h.2.2.1, h.2.2.2.1, h.2.2.2.2.1, h.2.2.2.2.2⟩
  show du_s s.1 (if t.2.1 = true then t.1 ||| b else t.1)
  by_cases z : t.2.1 = true
  · rw [if_pos z]
    exact du_s_w h.1
  · rw [if_neg z]
    exact h.1
theorem du_M_fs {s t : du_F} (k b : Int32) (o : Nat) (ko e : Int32) (p : Nat) (h : du_M s t) : du_M (du_fs k b o ko e p s) (du_fs k b o ko e p t) := by
  have r := du_M_rc p h
  unfold du_fs
  by_cases z6 : k = 6
  · rw [if_pos z6, if_pos z6]
    by_cases y : ko = 2
    · rw [if_pos y, if_pos y]
      by_cases x : 0 ≤ e
      · rw [if_pos x, if_pos x]
        exact du_M_rc p (du_M_tm o (du_M_mt o h))
      · rw [if_neg x, if_neg x]
        exact du_M_rc p (du_M_tm o (du_M_mt o (du_M_tb o (du_M_mt o h))))
    · rw [if_neg y, if_neg y]
      by_cases x : ko = 4
      · rw [if_pos x, if_pos x]
        exact du_M_tm o (du_M_mt o (du_M_tb o (du_M_ct r)))
      · rw [if_neg x, if_neg x]
        exact du_M_tm o (du_M_ct r)
  · rw [if_neg z6, if_neg z6]
    by_cases z0 : k = 0
    · rw [if_pos z0, if_pos z0]
      exact du_M_se b r
    · rw [if_neg z0, if_neg z0]
      by_cases zo : du_o k
      · rw [if_pos zo, if_pos zo]
        exact du_M_on p r
      · rw [if_neg zo, if_neg zo]
        by_cases z3 : k = 3
        · rw [if_pos z3, if_pos z3]
          exact du_M_tb o (du_M_mt o r)
        · rw [if_neg z3, if_neg z3]
          by_cases z7 : k = 7
          · rw [if_pos z7, if_pos z7]
            exact du_M_ct (du_M_mt o r)
          · rw [if_neg z7, if_neg z7]
            by_cases z8 : k = 8 ∨ k = 9
            · rw [if_pos z8, if_pos z8]
              exact du_M_ct r
            · rw [if_neg z8, if_neg z8]
              exact r
theorem du_M_10 {s t : du_F} (b b' : Int32) (o : Nat) (ko ko' e e' : Int32) (p : Nat) (h : du_M s t) : du_M (du_fs 1 b o ko e p s) (du_fs 0 b' o ko' e' p t) := by
  rw [du_fs_1, du_fs_0]
  exact du_M_sw b' (du_M_rc p h)
/-- two scripts of tokens: a USE of the one is a SET of the other -/
def du_W (n : Nat) (a v b w : Nat → Int32) : Prop := ∀ q, q < n → (a q = b q ∧ v q = w q) ∨ (a q = 1 ∧ b q = 0)
theorem du_W_q {n : Nat} {a v b w : Nat → Int32} (h : du_W n a v b w) : ∀ q, q < n → du_q (a q) (b q) := by
  intro q hq
  rcases h q hq with z | z
  · exact Or.inl z.1
  · exact Or.inr ⟨Or.inr z.1, Or.inl z.2⟩
theorem du_mono {n : Nat} {a v b w : Nat → Int32} (hn : n ≤ 40) (h : du_W n a v b w) (hG : du_G a n) : ∀ p, p ≤ n → du_M (du_fr a v n p) (du_fr b w n p)
  | 0, _ => ⟨du_s_r 0, rfl, fun _ => du_s_r 0, rfl, fun _ => du_s_r 0, rfl⟩
  | p + 1, hp => by
    have ih := du_mono hn h hG p (by omega)
    have hq := du_W_q h
    have eo : du_op a p = du_op b p := du_q_op (fun q hq' => hq q (by omega))
    have es : du_sc a n = du_sc b n := du_q_sc hq
    show du_M (du_fs (a p) ((1 : Int32) <<< (v p &&& 31)) (du_op a p).toNatClampNeg (a (du_op a p).toNatClampNeg) ((du_sc a n).2.2.2 (du_op a p).toNatClampNeg) p (du_fr a v n p)) (du_fs (b p) ((1 : Int32) <<< (w p &&& 31)) (du_op b p).toNatClampNeg (b (du_op b p).toNatClampNeg) ((du_sc b n).2.2.2 (du_op b p).toNatClampNeg) p (du_fr b w n p))
    rw [← eo, ← es]
    rcases h p (by omega) with ⟨e1, e2⟩ | ⟨e1, e2⟩
    · rw [← e1, ← e2]
      by_cases z6 : a p = 6
      · obtain ⟨s, hs, e, ho⟩ := du_op_in (hG.1 p (by omega)) (Or.inr (Or.inl z6))
        have eb : a (du_op a p).toNatClampNeg = b (du_op a p).toNatClampNeg := by
          rw [e, nI_clamp (by omega)]
          rcases h s (by omega) with y | y
          · exact y.1
          · rw [y.1] at ho
            exact absurd ho (by decide)
        rw [← eb]
        exact du_M_fs _ _ _ _ _ p ih
      · rw [du_fs_ko (ko := b (du_op a p).toNatClampNeg) (ko' := a (du_op a p).toNatClampNeg) (e' := (du_sc a n).2.2.2 (du_op a p).toNatClampNeg) z6]
        exact du_M_fs _ _ _ _ _ p ih
    · rw [e1, e2]
      exact du_M_10 _ _ _ _ _ _ _ p ih
theorem du_mono_cm {n : Nat} {a v b w : Nat → Int32} (hn : n ≤ 40) (h : du_W n a v b w) (hG : du_G a n) (q : Nat) : du_cm a v n q = du_cm b w n q :=
  congrFun (du_mono hn h hG n (Nat.le_refl n)).2.2.2.1 q
theorem du_mono_sv {n : Nat} {a v b w : Nat → Int32} (hn : n ≤ 40) (h : du_W n a v b w) (hG : du_G a n) (q : Nat) : du_s (du_sv a v n q) (du_sv b w n q) := by
  unfold du_sv
  rw [← du_mono_cm hn h hG q]
  by_cases z : du_cm a v n q = true
  · rw [if_pos z, if_pos z]
    exact (du_mono hn h hG n (Nat.le_refl n)).2.2.1 q
  · rw [if_neg z, if_neg z]
    exact du_s_r 63

/-! the first token -/
theorem du_mt_b (o : Nat) (s : du_F) : (du_mt o s).2.2.1 = s.2.2.1 ∧ (du_mt o s).2.2.2.1 = s.2.2.2.1 := by
  unfold du_mt
  by_cases z : s.2.1 = true
  · rw [if_pos z]
    exact ⟨rfl, rfl⟩
  · rw [if_neg z]
    exact ⟨rfl, rfl⟩
/-- before and comes of t are those of s at q -/
def du_E (q : Nat) (s t : du_F) : Prop := t.2.2.1 q = s.2.2.1 q ∧ t.2.2.2.1 q = s.2.2.2.1 q
theorem du_E_r (q : Nat) (s : du_F) : du_E q s s := ⟨rfl, rfl⟩
theorem du_E_mt {q : Nat} {s t : du_F} (o : Nat) (h : du_E q s t) : du_E q s (du_mt o t) := by
  unfold du_E
  rw [(du_mt_b o t).1, (du_mt_b o t).2]
  exact h
theorem du_E_rc {q p : Nat} {s t : du_F} (hq : q ≠ p) (h : du_E q s t) : du_E q s (du_rc p t) := by
  refine ⟨?_, ?_⟩
  · show upd t.2.2.1 p t.1 q = _
    rw [pk_un hq]
    exact h.1
  · show va_up t.2.2.2.1 p t.2.1 q = _
    rw [du_vn hq]
    exact h.2
theorem du_E_fs {q p : Nat} (hq : q ≠ p) (k b : Int32) (o : Nat) (ko e : Int32) (s : du_F) : du_E q s (du_fs k b o ko e p s) := by
  have h := du_E_r q s
  have r := du_E_rc hq h
  unfold du_fs
  by_cases z6 : k = 6
  · rw [if_pos z6]
    by_cases y : ko = 2
    · rw [if_pos y]
      refine du_E_rc hq ?_
      by_cases x : 0 ≤ e
      · rw [if_pos x]
        exact du_E_mt o h
      · rw [if_neg x]
        exact du_E_mt o (t := du_tb o (du_mt o s)) (du_E_mt o h)
    · rw [if_neg y]
      by_cases x : ko = 4
      · rw [if_pos x]
        exact du_E_mt o (t := du_tb o (du_ct (du_rc p s))) r
      · rw [if_neg x]
        exact r
  · rw [if_neg z6]
    by_cases z0 : k = 0
    · rw [if_pos z0]
      exact r
    · rw [if_neg z0]
      by_cases zo : du_o k
      · rw [if_pos zo]
        exact r
      · rw [if_neg zo]
        by_cases z3 : k = 3
        · rw [if_pos z3]
          exact du_E_mt o r
        · rw [if_neg z3]
          by_cases z7 : k = 7
          · rw [if_pos z7]
            exact du_E_mt o r
          · rw [if_neg z7]
            by_cases z8 : k = 8 ∨ k = 9
            · rw [if_pos z8]
              exact r
            · rw [if_neg z8]
              exact r
theorem du_E_p {p : Nat} {k : Int32} (h6 : ¬ k = 6) (b : Int32) (o : Nat) (ko e : Int32) (s : du_F) : (du_fs k b o ko e p s).2.2.1 p = s.1 ∧ (du_fs k b o ko e p s).2.2.2.1 p = s.2.1 := by
  have r : du_E p (du_rc p s) (du_rc p s) := du_E_r p _
  have r' : (du_rc p s).2.2.1 p = s.1 ∧ (du_rc p s).2.2.2.1 p = s.2.1 := ⟨pk_us, du_vs⟩
  have g : du_E p (du_rc p s) (du_fs k b o ko e p s) := by
    unfold du_fs
    rw [if_neg h6]
    by_cases z0 : k = 0
    · rw [if_pos z0]
      exact r
    · rw [if_neg z0]
      by_cases zo : du_o k
      · rw [if_pos zo]
        exact r
      · rw [if_neg zo]
        by_cases z3 : k = 3
        · rw [if_pos z3]
          exact du_E_mt o r
        · rw [if_neg z3]
          by_cases z7 : k = 7
          · rw [if_pos z7]
            exact du_E_mt o r
          · rw [if_neg z7]
            by_cases z8 : k = 8 ∨ k = 9
            · rw [if_pos z8]
              exact r
            · rw [if_neg z8]
              exact r
  exact ⟨g.1.trans r'.1, g.2.trans r'.2⟩
theorem du_first {a v : Nat → Int32} {n : Nat} (h : ¬ a 0 = 6) : ∀ p, (du_fr a v n (p + 1)).2.2.1 0 = 0 ∧ (du_fr a v n (p + 1)).2.2.2.1 0 = true
  | 0 => du_E_p h _ _ _ _ _
  | p + 1 => by
    have ih := du_first (v := v) (n := n) h p
    have g : du_E 0 (du_fr a v n (p + 1)) (du_fr a v n (p + 1 + 1)) := du_E_fs (by omega) _ _ _ _ _ _
    exact ⟨g.1.trans ih.1, g.2.trans ih.2⟩
theorem du_first_n {a v : Nat → Int32} {n : Nat} (h0 : 0 < n) (hG : du_G a n) : du_cm a v n 0 = true ∧ du_sv a v n 0 = 0 := by
  have h6 : ¬ a 0 = 6 := fun z => absurd ((hG.1 0 h0).2.2.1 z) (Nat.lt_irrefl 0)
  obtain ⟨m, rfl⟩ : ∃ m, n = m + 1 := ⟨n - 1, by omega⟩
  have g := du_first (v := v) (n := m + 1) h6 m
  have c : du_cm a v (m + 1) 0 = true := g.2
  exact ⟨c, by unfold du_sv; rw [if_pos c]; exact g.1⟩
end
section
/-! arrays that agree -/
theorem du_ag {f g : Nat → Int32} {p : Nat} {x : Int32} (h : ∀ q, q < p → f q = g q) : ∀ q, q < p + 1 → upd f p x q = upd g p x q := by
  intro q hq
  by_cases z : q = p
  · rw [z, pk_us, pk_us]
  · rw [pk_un z, pk_un z]
    exact h q (by omega)
theorem du_ag2 {f g : Nat → Int32} {O : Nat → Prop} {k : Nat} {x y : Int32} (h : ∀ q, O q → f q = g q) (e : x = y) : ∀ q, O q → upd f k x q = upd g k y q := by
  intro q hq
  by_cases z : q = k
  · rw [z, pk_us, pk_us]
    exact e
  · rw [pk_un z, pk_un z]
    exact h q hq
theorem du_ag3 {f g : Nat → Int32} {p : Nat} {x : Int32} (h : ∀ q, q < p → f q = g q) (e : x = g p) : ∀ q, q < p + 1 → upd f p x q = g q := by
  intro q hq
  by_cases z : q = p
  · rw [z, pk_us]
    exact e
  · rw [pk_un z]
    exact h q (by omega)
theorem du_ag4 {f g : Nat → Int32} {p : Nat} {x : Int32} (h : ∀ q, q < p → f q = g q) : ∀ q, q < p → upd f p x q = g q := by
  intro q hq
  rw [pk_un (by omega)]
  exact h q hq
theorem du_m1 (x : Int32) : x + (-1) = x - 1 := (Int32.sub_eq_add_neg x 1).symm

/-! the state of the nesting's arrays against the picture -/
def du_SS (a : Nat → Int32) (p : Nat) (op : Int32) (a3 a4 a5 a6 : Nat → Int32) : Prop :=
  op = nI (du_sc a p).1 ∧ (∀ i, i < (du_sc a p).1 → a6 i = nI ((du_sc a p).2.1 i)) ∧ (∀ q, q < p → a3 q = (du_sc a p).2.2.1 q) ∧
  (∀ q, q < p → a4 q = (du_sc a p).2.2.2 q) ∧ (∀ q, q < p → a5 q = du_op a q)
theorem du_SS_o {a : Nat → Int32} {p : Nat} {op : Int32} {a3 a4 a5 a6 : Nat → Int32} (ho : du_o (a p)) (h : du_SS a p op a3 a4 a5 a6) :
    du_SS a (p + 1) (op + 1) (upd a3 p (-1)) (upd a4 p (-1)) (upd a5 p (-1)) (upd a6 (du_sc a p).1 (nI p)) := by
  obtain ⟨h1, h6, h3, h4, h5⟩ := h
  have e : du_sc a (p + 1) = ((du_sc a p).1 + 1, va_up (du_sc a p).2.1 (du_sc a p).1 p, upd (du_sc a p).2.2.1 p (-1), upd (du_sc a p).2.2.2 p (-1)) := du_st_o p _ ho
  have eo : du_op a p = -1 := du_op_e (by rcases ho with z | z | z <;> rw [z] <;> decide) (by rcases ho with z | z | z <;> rw [z] <;> decide)
  unfold du_SS
  rw [e]
  refine ⟨?_, ?_, du_ag h3, du_ag h4, du_ag3 h5 eo.symm⟩
  · show op + 1 = nI ((du_sc a p).1 + 1)
    rw [h1, nI_1]
  · show ∀ i, i < (du_sc a p).1 + 1 → upd a6 (du_sc a p).1 (nI p) i = nI (va_up (du_sc a p).2.1 (du_sc a p).1 p i)
    intro i hi
    by_cases z : i = (du_sc a p).1
    · rw [z, pk_us, du_vs]
    · rw [pk_un z, du_vn z]
      exact h6 i (by omega)
theorem du_SS_e {a : Nat → Int32} {p : Nat} {op : Int32} {a3 a4 a5 a6 : Nat → Int32} {x : Int32} (ho : ¬ du_o (a p)) (n3 : ¬ a p = 3) (n6 : ¬ a p = 6) (hx : x = du_op a p) (h : du_SS a p op a3 a4 a5 a6) :
    du_SS a (p + 1) op (upd a3 p (-1)) (upd a4 p (-1)) (upd a5 p x) a6 := by
  obtain ⟨h1, h6, h3, h4, h5⟩ := h
  have e : du_sc a (p + 1) = ((du_sc a p).1, (du_sc a p).2.1, upd (du_sc a p).2.2.1 p (-1), upd (du_sc a p).2.2.2 p (-1)) := du_st_e p _ ho n3 n6
  unfold du_SS
  rw [e]
  exact ⟨h1, h6, du_ag h3, du_ag h4, du_ag3 h5 hx⟩
theorem du_SS_78 {a : Nat → Int32} {p : Nat} {op : Int32} {a3 a4 a5 a6 : Nat → Int32} {x : Int32} (z : a p = 7 ∨ a p = 8) (hx : x = du_op a p) (h : du_SS a p op a3 a4 a5 a6) :
    du_SS a (p + 1) op (upd a3 p (-1)) (upd a4 p (-1)) (upd (upd a5 p (-1)) p x) a6 := by
  obtain ⟨h1, h6, h3, h4, h5⟩ := h
  have e : du_sc a (p + 1) = ((du_sc a p).1, (du_sc a p).2.1, upd (du_sc a p).2.2.1 p (-1), upd (du_sc a p).2.2.2 p (-1)) :=
    du_st_e p _ (by rcases z with z | z <;> rw [z] <;> decide) (by rcases z with z | z <;> rw [z] <;> decide) (by rcases z with z | z <;> rw [z] <;> decide)
  unfold du_SS
  rw [e]
  exact ⟨h1, h6, du_ag h3, du_ag h4, du_ag3 (du_ag4 h5) hx⟩
theorem du_SS_3 {a : Nat → Int32} {p : Nat} {op : Int32} {a3 a4 a5 a6 : Nat → Int32} {x : Int32} (z : a p = 3) (hx : x = du_op a p) (h : du_SS a p op a3 a4 a5 a6) :
    du_SS a (p + 1) op (upd a3 p (-1)) (upd (upd a4 p (-1)) ((du_sc a p).2.1 ((du_sc a p).1 - 1)) (nI p)) (upd (upd a5 p (-1)) p x) a6 := by
  obtain ⟨h1, h6, h3, h4, h5⟩ := h
  have e : du_sc a (p + 1) = ((du_sc a p).1, (du_sc a p).2.1, upd (du_sc a p).2.2.1 p (-1), upd (upd (du_sc a p).2.2.2 p (-1)) ((du_sc a p).2.1 ((du_sc a p).1 - 1)) (nI p)) := by
    show du_st (a p) p (du_sc a p) = _
    rw [z, du_st_3]
  unfold du_SS
  rw [e]
  exact ⟨h1, h6, du_ag h3, du_ag2 (du_ag h4) rfl, du_ag3 (du_ag4 h5) hx⟩
theorem du_SS_6 {a : Nat → Int32} {p : Nat} {op : Int32} {a3 a4 a5 a6 : Nat → Int32} {x : Int32} (z : a p = 6) (hd : 0 < (du_sc a p).1) (hx : x = du_op a p) (h : du_SS a p op a3 a4 a5 a6) :
    du_SS a (p + 1) (op - 1) (upd (upd a3 p (-1)) ((du_sc a p).2.1 ((du_sc a p).1 - 1)) (nI p)) (upd a4 p (-1)) (upd (upd a5 p (-1)) p x) a6 := by
  obtain ⟨h1, h6, h3, h4, h5⟩ := h
  have e : du_sc a (p + 1) = ((du_sc a p).1 - 1, (du_sc a p).2.1, upd (upd (du_sc a p).2.2.1 p (-1)) ((du_sc a p).2.1 ((du_sc a p).1 - 1)) (nI p), upd (du_sc a p).2.2.2 p (-1)) := by
    show du_st (a p) p (du_sc a p) = _
    rw [z, du_st_6]
  unfold du_SS
  rw [e]
  refine ⟨?_, fun i hi => h6 i (by have hi : i < (du_sc a p).1 - 1 := hi; omega), du_ag2 (du_ag h3) rfl, du_ag h4, du_ag3 (du_ag4 h5) hx⟩
  show op - 1 = nI ((du_sc a p).1 - 1)
  rw [h1]
  obtain ⟨m, em⟩ : ∃ m, (du_sc a p).1 = m + 1 := ⟨(du_sc a p).1 - 1, by omega⟩
  rw [em, nI_pred]
  rfl

section
variable {ln rd gd op nw lv : Int32} {a1 a2 a3 a4 a5 a6 a7 a8 a9 a10 a11 : Nat → Int32}
theorem du_oloop {post : Int32 → Prop} {S : Nat → Nat} {D : Nat} (hD : D ≤ 40) (hS : ∀ i, i < D → a6 i = nI (S i) ∧ S i < 40) :
    ∀ d, d ≤ D → post (du_lp a1 S d) → ∃ n, wX_openLoop_7 post ln rd gd op nw lv a1 a2 a3 a4 a5 a6 a7 a8 a9 a10 a11 n (nI d - 1)
  | 0, _, H => ⟨0 + 1, br_t (by decide) (br_f (by decide) H)⟩
  | d + 1, hd, H => by
    have hs := hS d (by omega)
    rw [nI_pred]
    by_cases z : a1 (S d) = 2
    · have e : du_lp a1 S (d + 1) = du_lp a1 S d := if_pos z
      rw [e] at H
      obtain ⟨n, hn⟩ := du_oloop hD hS d (by omega) H
      refine ⟨n + 1, ?_⟩
      unfold wX_openLoop_7
      rw [nI_clamp (show d < 2 ^ 31 by omega), hs.1, nI_clamp (show S d < 2 ^ 31 by omega)]
      exact br_f (nI_pos (by omega)) ⟨pk_in d 40 (by omega), pk_in (S d) 40 hs.2, br_t z (nm_r (du_m1 _) hn)⟩
    · have e : du_lp a1 S (d + 1) = nI (S d) := if_neg z
      rw [e] at H
      refine ⟨0 + 1, ?_⟩
      unfold wX_openLoop_7
      rw [nI_clamp (show d < 2 ^ 31 by omega), hs.1, nI_clamp (show S d < 2 ^ 31 by omega)]
      refine br_f (nI_pos (by omega)) ⟨pk_in d 40 (by omega), pk_in (S d) 40 hs.2, br_f z ?_⟩
      unfold wX_openLoop_32
      rw [nI_clamp (show d < 2 ^ 31 by omega), hs.1]
      exact br_t (nI_pos' (by omega)) ⟨pk_in d 40 (by omega), H⟩
theorem du_openLoop {post : Int32 → Prop} {S : Nat → Nat} {d : Nat} (hd : d ≤ 40) (hS : ∀ i, i < d → a6 i = nI (S i) ∧ S i < 40) (H : post (du_lp a1 S d)) :
    wpX_openLoop post (ln, rd, gd, nI d, nw, lv, a1, a2, a3, a4, a5, a6, a7, a8, a9, a10, a11) := by
  unfold wpX_openLoop
  exact nm_e (du_oloop hd hS d (Nat.le_refl d) H)
theorem du_place {post : Int32 → St1 → Prop} {p : Nat} (hp : p < 40) (hk : du_ok a1 p) (h : du_SS a1 p op a3 a4 a5 a6)
    (H : ∀ op a3 a4 a5 a6, du_SS a1 (p + 1) op a3 a4 a5 a6 → post 1 (ln, rd, gd, op, nw, lv, a1, a2, a3, a4, a5, a6, a7, a8, a9, a10, a11)) :
    wpX_placeToken post (ln, rd, gd, op, nw, lv, a1, a2, a3, a4, a5, a6, a7, a8, a9, a10, a11) (nI p) := by
  have cp : (nI p).toNatClampNeg = p := nI_clamp (by omega)
  have ip : vp_in (nI p) 40 := pk_in p 40 hp
  have J := du_Jp a1 p
  have jd : (du_sc a1 p).1 ≤ p := J.1
  obtain ⟨rfl, e6, e3, e4, e5⟩ := h
  have h : du_SS a1 p (nI (du_sc a1 p).1) a3 a4 a5 a6 := ⟨rfl, e6, e3, e4, e5⟩
  have h43 : du_o (a1 p) → wX_placeToken_43 post (nI p) ln rd gd (nI (du_sc a1 p).1) nw lv a1 a2 (upd a3 p (-1)) (upd a4 p (-1)) (upd a5 p (-1)) a6 a7 a8 a9 a10 a11 := by
    intro ho
    unfold wX_placeToken_43
    rw [nI_clamp (show (du_sc a1 p).1 < 2 ^ 31 by omega)]
    exact ⟨vp_in_nI (by omega) (by decide), nm_e (nm_e (H _ _ _ _ _ (du_SS_o ho h)))⟩
  have h77 : (a1 p = 7 ∨ a1 p = 8) → wX_placeToken_77 post (nI p) ln rd gd (nI (du_sc a1 p).1) nw lv a1 a2 (upd a3 p (-1)) (upd a4 p (-1)) (upd a5 p (-1)) a6 a7 a8 a9 a10 a11 := by
    intro ho
    obtain ⟨s, hs, e, _⟩ := du_op_in hk (by rcases ho with z | z; exact Or.inr (Or.inr (Or.inl z)); exact Or.inr (Or.inr (Or.inr z)))
    unfold wX_placeToken_77
    rw [cp]
    refine du_openLoop (S := (du_sc a1 p).2.1) (by omega) (fun i hi => ⟨e6 i hi, by have := (J.2.1 i hi).1; omega⟩) ?_
    rw [← du_op_78 ho]
    refine ⟨ip, nm_e ⟨ip, br_f ?_ (H _ _ _ _ _ (du_SS_78 ho rfl h))⟩⟩
    rw [pk_us, e]
    exact nI_pos (by omega)
  unfold wpX_placeToken
  dsimp only
  rw [cp]
  refine ⟨ip, nm_e ⟨ip, nm_e ⟨ip, nm_e ⟨ip, nm_e ?_⟩⟩⟩⟩
  rcases du_k10 hk.1 with z | z | z | z | z | z | z | z | z | z
  · have n1 := du_SS_e (x := -1) (by rw [z]; decide) (by rw [z]; decide) (by rw [z]; decide) (du_op_e (by rw [z]; decide) (by rw [z]; decide)).symm h
    rw [z]
    exact br_f (by decide) (br_f (by decide) (br_f (by decide) (br_f (by decide) (br_f (by decide) (br_f (by decide) (br_f (by decide) (H _ _ _ _ _ n1)))))))
  · have n1 := du_SS_e (x := -1) (by rw [z]; decide) (by rw [z]; decide) (by rw [z]; decide) (du_op_e (by rw [z]; decide) (by rw [z]; decide)).symm h
    rw [z]
    exact br_f (by decide) (br_f (by decide) (br_f (by decide) (br_f (by decide) (br_f (by decide) (br_f (by decide) (br_f (by decide) (H _ _ _ _ _ n1)))))))
  · exact br_t z (h43 (Or.inl z))
  · have hx := du_op_36 (Or.inl z)
    obtain ⟨_, k3, _, _⟩ := hk
    obtain ⟨d0, g2, g3⟩ := k3 z
    have js := (J.2.1 ((du_sc a1 p).1 - 1) (by omega)).1
    have n1 := du_SS_3 z rfl h
    rw [hx] at n1
    rw [z]
    refine br_f (by decide) (br_f (by decide) (br_f (by decide) (br_f (by decide) (br_f (by decide) (br_t rfl ?_)))))
    unfold wX_placeToken_115
    have es : nI (du_sc a1 p).1 - 1 = nI ((du_sc a1 p).1 - 1) := pk_sub (b := 1) (by omega)
    rw [es, cp, nI_clamp (show (du_sc a1 p).1 - 1 < 2 ^ 31 by omega), e6 _ (show (du_sc a1 p).1 - 1 < (du_sc a1 p).1 by omega)]
    have is : vp_in (nI ((du_sc a1 p).2.1 ((du_sc a1 p).1 - 1))) 40 := vp_in_nI (by omega) (by decide)
    have is1 : vp_in (nI ((du_sc a1 p).1 - 1)) 40 := vp_in_nI (by omega) (by decide)
    refine br_f (nI_ne0 d0 (by omega)) ⟨is1, nm_e ⟨ip, nm_e (br_f (by decide) ⟨is, ?_⟩)⟩⟩
    rw [nI_clamp (show (du_sc a1 p).2.1 ((du_sc a1 p).1 - 1) < 2 ^ 31 by omega)]
    refine br_t g2 ⟨is, br_t ?_ ⟨is, nm_e (H _ _ _ _ _ n1)⟩⟩
    rw [pk_un (by omega), e4 _ js, g3]
    decide
  · rw [z]
    exact br_f (by decide) (br_t rfl (h43 (Or.inr (Or.inl z))))
  · rw [z]
    exact br_f (by decide) (br_f (by decide) (br_t rfl (h43 (Or.inr (Or.inr z)))))
  · have hx := du_op_36 (Or.inr z)
    obtain ⟨_, _, k6, _⟩ := hk
    have d0 := k6 z
    have js := (J.2.1 ((du_sc a1 p).1 - 1) (by omega)).1
    have n1 := du_SS_6 z d0 rfl h
    rw [hx] at n1
    rw [z]
    refine br_f (by decide) (br_f (by decide) (br_f (by decide) (br_f (by decide) (br_f (by decide) (br_f (by decide) (br_t rfl ?_))))))
    unfold wX_placeToken_115
    have es : nI (du_sc a1 p).1 - 1 = nI ((du_sc a1 p).1 - 1) := pk_sub (b := 1) (by omega)
    rw [es] at n1
    rw [es, cp, nI_clamp (show (du_sc a1 p).1 - 1 < 2 ^ 31 by omega), e6 _ (show (du_sc a1 p).1 - 1 < (du_sc a1 p).1 by omega)]
    have is : vp_in (nI ((du_sc a1 p).2.1 ((du_sc a1 p).1 - 1))) 40 := vp_in_nI (by omega) (by decide)
    have is1 : vp_in (nI ((du_sc a1 p).1 - 1)) 40 := vp_in_nI (by omega) (by decide)
    refine br_f (nI_ne0 d0 (by omega)) ⟨is1, nm_e ⟨ip, nm_e (br_t rfl ⟨is, ?_⟩)⟩⟩
    rw [nI_clamp (show (du_sc a1 p).2.1 ((du_sc a1 p).1 - 1) < 2 ^ 31 by omega)]
    exact nm_e (nm_e (H _ _ _ _ _ n1))
  · rw [z]
    exact br_f (by decide) (br_f (by decide) (br_f (by decide) (br_t rfl (h77 (Or.inl z)))))
  · rw [z]
    exact br_f (by decide) (br_f (by decide) (br_f (by decide) (br_f (by decide) (br_t rfl (h77 (Or.inr z))))))
  · have n1 := du_SS_e (x := -1) (by rw [z]; decide) (by rw [z]; decide) (by rw [z]; decide) (du_op_e (by rw [z]; decide) (by rw [z]; decide)).symm h
    rw [z]
    exact br_f (by decide) (br_f (by decide) (br_f (by decide) (br_f (by decide) (br_f (by decide) (br_f (by decide) (br_f (by decide) (H _ _ _ _ _ n1)))))))
theorem du_find {post : St1 → Prop} {n : Nat} (hn : n ≤ 40) (hG : du_G a1 n)
    (H : ∀ op a3 a4 a5 a6, du_SS a1 n op a3 a4 a5 a6 → post (nI n, rd, 1, op, nw, lv, a1, a2, a3, a4, a5, a6, a7, a8, a9, a10, a11)) :
    wpX_findStructure post (nI n, rd, gd, op, nw, lv, a1, a2, a3, a4, a5, a6, a7, a8, a9, a10, a11) := by
  unfold wpX_findStructure
  exact pk_loop (σ := Int32 × (Nat → Int32) × (Nat → Int32) × (Nat → Int32) × (Nat → Int32))
    (fun m i s => wX_findStructure_12 post m (nI i) (nI n) rd 1 s.1 nw lv a1 a2 s.2.1 s.2.2.1 s.2.2.2.1 s.2.2.2.2 a7 a8 a9 a10 a11)
    (fun i s => du_SS a1 i s.1 s.2.1 s.2.2.1 s.2.2.2.1 s.2.2.2.2) n 0 (0, a3, a4, a5, a6) (Nat.zero_le n)
    ⟨rfl, fun i hi => absurd hi (Nat.not_lt_zero i), fun q hq => absurd hq (Nat.not_lt_zero q), fun q hq => absurd hq (Nat.not_lt_zero q), fun q hq => absurd hq (Nat.not_lt_zero q)⟩
    (fun m s h => pk_le n n (fun _ => br_t (by rw [h.1, hG.2]; decide) (H _ _ _ _ _ h)) (fun z => absurd z (by omega)))
    (fun m i s hi h hw => pk_le n i (fun z => absurd z (by omega)) (fun _ => br_f (by decide) (du_place (by omega) (hG.1 i hi) h (fun op' b3 b4 b5 b6 h' => ⟨rfl, rfl, nm_r (nI_1 i) (hw (op', b3, b4, b5, b6) h')⟩))))
end
end
section
/-! the pass forward: the state against the picture -/
def du_b (b : Bool) : Int32 := if b = true then 1 else 0
theorem du_bt : du_b true = 1 := rfl
theorem du_bff : du_b false = 0 := rfl
theorem du_nb (b : Bool) : narrow .boolean (.int (du_b b)) = .int (du_b b) := by cases b <;> rfl
theorem du_fb (b : Bool) : fits .boolean (.int (du_b b)) = true := by cases b <;> rfl
theorem du_vb (b : Bool) : vp_nar .boolean (du_b b) = du_b b := by cases b <;> rfl
theorem du_agb {f : Nat → Int32} {g : Nat → Bool} {O : Nat → Prop} {k : Nat} {x : Int32} {b : Bool} (h : ∀ q, O q → f q = du_b (g q)) (e : x = du_b b) : ∀ q, O q → upd f k x q = du_b (va_up g k b q) := by
  intro q hq
  by_cases z : q = k
  · rw [z, pk_us, du_vs]
    exact e
  · rw [pk_un z, du_vn z]
    exact h q hq
def du_SF (B : Nat) (O : Nat → Prop) (s : du_F) (nw lv : Int32) (a7 a8 a9 a10 : Nat → Int32) : Prop :=
  nw = s.1 ∧ lv = du_b s.2.1 ∧ (∀ q, q < B → a7 q = s.2.2.1 q) ∧ (∀ q, q < B → a8 q = du_b (s.2.2.2.1 q)) ∧ (∀ q, O q → a9 q = s.2.2.2.2.1 q) ∧ (∀ q, O q → a10 q = du_b (s.2.2.2.2.2 q))
/-- before and comes are stored at p -/
theorem du_SF_rc {p : Nat} {O : Nat → Prop} {s : du_F} {nw lv : Int32} {a7 a8 a9 a10 : Nat → Int32} (h : du_SF p O s nw lv a7 a8 a9 a10) :
    du_SF (p + 1) O (du_rc p s) nw lv (upd a7 p nw) (upd a8 p (vp_nar .boolean lv)) a9 a10 := by
  obtain ⟨h1, h2, h7, h8, h9, h10⟩ := h
  refine ⟨h1, h2, ?_, ?_, h9, h10⟩
  · show ∀ q, q < p + 1 → upd a7 p nw q = upd s.2.2.1 p s.1 q
    rw [h1]
    exact du_ag h7
  · show ∀ q, q < p + 1 → upd a8 p (vp_nar .boolean lv) q = du_b (va_up s.2.2.2.1 p s.2.1 q)
    rw [h2, du_vb]
    intro q hq
    by_cases z : q = p
    · rw [z, pk_us, du_vs]
    · rw [pk_un z, du_vn z]
      exact h8 q (by omega)
theorem du_SF_ct {B : Nat} {O : Nat → Prop} {s : du_F} {nw lv : Int32} {a7 a8 a9 a10 : Nat → Int32} (h : du_SF B O s nw lv a7 a8 a9 a10) :
    du_SF B O (du_ct s) 63 0 a7 a8 a9 a10 := ⟨rfl, rfl, h.2.2.1, h.2.2.2.1, h.2.2.2.2.1, h.2.2.2.2.2⟩
theorem du_SF_tb {B : Nat} {O : Nat → Prop} {s : du_F} {nw lv : Int32} {a7 a8 a9 a10 : Nat → Int32} {o : Nat} (ho : o < B) (h : du_SF B O s nw lv a7 a8 a9 a10) :
    du_SF B O (du_tb o s) (a7 o) (a8 o) a7 a8 a9 a10 := ⟨h.2.2.1 o ho, h.2.2.2.1 o ho, h.2.2.1, h.2.2.2.1, h.2.2.2.2.1, h.2.2.2.2.2⟩
theorem du_SF_tm {B : Nat} {O : Nat → Prop} {s : du_F} {nw lv : Int32} {a7 a8 a9 a10 : Nat → Int32} {o : Nat} (ho : O o) (h : du_SF B O s nw lv a7 a8 a9 a10) :
    du_SF B O (du_tm o s) (a9 o) (a10 o) a7 a8 a9 a10 := ⟨h.2.2.2.2.1 o ho, h.2.2.2.2.2 o ho, h.2.2.1, h.2.2.2.1, h.2.2.2.2.1, h.2.2.2.2.2⟩
theorem du_SF_O {B : Nat} {O O' : Nat → Prop} {s : du_F} {nw lv : Int32} {a7 a8 a9 a10 : Nat → Int32} (hO : ∀ q, O' q → O q) (h : du_SF B O s nw lv a7 a8 a9 a10) :
    du_SF B O' s nw lv a7 a8 a9 a10 := ⟨h.1, h.2.1, h.2.2.1, h.2.2.2.1, fun q hq => h.2.2.2.2.1 q (hO q hq), fun q hq => h.2.2.2.2.2 q (hO q hq)⟩
theorem du_SF_on {B p : Nat} {O O' : Nat → Prop} {s : du_F} {nw lv : Int32} {a7 a8 a9 a10 : Nat → Int32} (hO : ∀ q, O' q → q = p ∨ O q) (h : du_SF B O s nw lv a7 a8 a9 a10) :
    du_SF B O' (du_on p s) nw lv a7 a8 (upd a9 p 63) (upd a10 p 0) := by
  obtain ⟨h1, h2, h7, h8, h9, h10⟩ := h
  refine ⟨h1, h2, h7, h8, ?_, ?_⟩
  · show ∀ q, O' q → upd a9 p 63 q = upd s.2.2.2.2.1 p 63 q
    intro q hq
    by_cases z : q = p
    · rw [z, pk_us, pk_us]
    · rw [pk_un z, pk_un z]
      exact h9 q ((hO q hq).resolve_left z)
  · show ∀ q, O' q → upd a10 p 0 q = du_b (va_up s.2.2.2.2.2 p false q)
    intro q hq
    by_cases z : q = p
    · rw [z, pk_us, du_vs]
      rfl
    · rw [pk_un z, du_vn z]
      exact h10 q ((hO q hq).resolve_left z)

section
variable {ln rd gd op nw lv : Int32} {a1 a2 a3 a4 a5 a6 a7 a8 a9 a10 a11 : Nat → Int32} {B o p : Nat} {O : Nat → Prop} {s : du_F} {post : St1 → Prop} {b : Int32}
theorem du_meet (ho : o < 40) (hO : O o) (h : du_SF B O s nw lv a7 a8 a9 a10)
    (H : ∀ nw lv a9 a10, du_SF B O (du_mt o s) nw lv a7 a8 a9 a10 → post (ln, rd, gd, op, nw, lv, a1, a2, a3, a4, a5, a6, a7, a8, a9, a10, a11)) :
    wpX_meetAt post (ln, rd, gd, op, nw, lv, a1, a2, a3, a4, a5, a6, a7, a8, a9, a10, a11) (nI o) := by
  have co : (nI o).toNatClampNeg = o := nI_clamp (by omega)
  have io : vp_in (nI o) 40 := pk_in o 40 ho
  obtain ⟨n1, l1, b1, c1, m1, y1⟩ := s
  obtain ⟨h1, h2, h7, h8, h9, h10⟩ := h
  have h1 : nw = n1 := h1
  have h2 : lv = du_b l1 := h2
  subst h1 h2
  unfold wpX_meetAt
  dsimp only
  rw [co]
  cases l1
  · exact br_t rfl (H _ _ _ _ ⟨rfl, rfl, h7, h8, h9, h10⟩)
  · refine br_f (by decide) ⟨io, io, nm_e ⟨io, nm_e (H _ _ _ _ ⟨rfl, rfl, h7, h8, du_ag2 h9 ?_, du_agb h10 rfl⟩)⟩⟩
    rw [h9 o hO]
theorem du_back (ho : o < 40) (hB : o < B) (hO : O o) (h : du_SF B O s nw lv a7 a8 a9 a10)
    (H : ∀ nw lv a9 a10, du_SF B O (du_mt o (du_tb o s)) nw lv a7 a8 a9 a10 → post (ln, rd, gd, op, nw, lv, a1, a2, a3, a4, a5, a6, a7, a8, a9, a10, a11)) :
    wpX_takeBack post (ln, rd, gd, op, nw, lv, a1, a2, a3, a4, a5, a6, a7, a8, a9, a10, a11) (nI o) := by
  have co : (nI o).toNatClampNeg = o := nI_clamp (by omega)
  have io : vp_in (nI o) 41 := pk_in o 41 (by omega)
  unfold wpX_takeBack
  dsimp only
  rw [co]
  refine ⟨io, nm_e ⟨io, nm_e ⟨?_, ?_, du_meet ho hO (du_SF_tb hB h) H⟩⟩⟩
  · rw [h.2.2.2.1 o hB]
    exact du_nb _
  · rw [h.2.2.2.1 o hB]
    exact du_fb _
theorem du_take (ho : o < 40) (hO : O o) (h : du_SF B O s nw lv a7 a8 a9 a10)
    (H : ∀ nw lv, du_SF B O (du_tm o s) nw lv a7 a8 a9 a10 → post (ln, rd, gd, op, nw, lv, a1, a2, a3, a4, a5, a6, a7, a8, a9, a10, a11)) :
    wpX_takeMeeting post (ln, rd, gd, op, nw, lv, a1, a2, a3, a4, a5, a6, a7, a8, a9, a10, a11) (nI o) := by
  have co : (nI o).toNatClampNeg = o := nI_clamp (by omega)
  have io : vp_in (nI o) 40 := pk_in o 40 ho
  unfold wpX_takeMeeting
  dsimp only
  rw [co]
  refine ⟨io, nm_e ⟨io, nm_e ⟨?_, ?_, H _ _ (du_SF_tm hO h)⟩⟩⟩
  · rw [h.2.2.2.2.2 o hO]
    exact du_nb _
  · rw [h.2.2.2.2.2 o hO]
    exact du_fb _
theorem du_fe36 (hp : p < 40) (ho : o < 40) (hO : O o) (h : du_SF p O s nw lv a7 a8 a9 a10)
    (H : ∀ nw lv a7 a8, du_SF (p + 1) O (du_rc p (du_tm o s)) nw lv a7 a8 a9 a10 → post (ln, rd, gd, op, nw, lv, a1, a2, a3, a4, a5, a6, a7, a8, a9, a10, a11)) :
    wX_forwardEnd_36 post (nI p) (nI o) ln rd gd op nw lv a1 a2 a3 a4 a5 a6 a7 a8 a9 a10 a11 := by
  have cp : (nI p).toNatClampNeg = p := nI_clamp (by omega)
  have ip : vp_in (nI p) 41 := pk_in p 41 (by omega)
  unfold wX_forwardEnd_36
  rw [cp]
  exact du_take ho hO h (fun nw' lv' h' => ⟨ip, nm_e ⟨ip, nm_e (H _ _ _ _ (du_SF_rc h'))⟩⟩)
theorem du_fe101 (ho : o < 40) (hO : O o) (h : du_SF B O s nw lv a7 a8 a9 a10)
    (H : ∀ nw lv, du_SF B O (du_tm o s) nw lv a7 a8 a9 a10 → post (ln, rd, gd, op, nw, lv, a1, a2, a3, a4, a5, a6, a7, a8, a9, a10, a11)) :
    wX_forwardEnd_101 post (nI o) ln rd gd op nw lv a1 a2 a3 a4 a5 a6 a7 a8 a9 a10 a11 := by
  unfold wX_forwardEnd_101
  exact du_take ho hO h H
theorem du_fend (hp : p < 40) (ho : o < p) (h5 : a5 p = nI o) (hk : du_o (a1 o)) (hO : O o) (h : du_SF p O s nw lv a7 a8 a9 a10)
    (H : ∀ nw lv a7 a8 a9 a10, du_SF (p + 1) O (du_fs 6 b o (a1 o) (a4 o) p s) nw lv a7 a8 a9 a10 → post (ln, rd, gd, op, nw, lv, a1, a2, a3, a4, a5, a6, a7, a8, a9, a10, a11)) :
    wpX_forwardEnd post (ln, rd, gd, op, nw, lv, a1, a2, a3, a4, a5, a6, a7, a8, a9, a10, a11) (nI p) := by
  have cp : (nI p).toNatClampNeg = p := nI_clamp (by omega)
  have co : (nI o).toNatClampNeg = o := nI_clamp (by omega)
  have ip : vp_in (nI p) 40 := pk_in p 40 hp
  have ip1 : vp_in (nI p) 41 := pk_in p 41 (by omega)
  have io : vp_in (nI o) 40 := pk_in o 40 (by omega)
  have ho40 : o < 40 := by omega
  unfold wpX_forwardEnd
  dsimp only
  rw [cp, h5]
  refine ⟨ip, nm_e ⟨io, ?_⟩⟩
  rw [co]
  by_cases k2 : a1 o = 2
  · rw [k2] at H
    refine br_t k2 (du_meet ho40 hO h (fun nw' lv' a9' a10' h' => ⟨io, ?_⟩))
    by_cases x : 0 ≤ a4 o
    · exact br_t x (du_fe36 hp ho40 hO h' (fun nw' lv' a7' a8' h'' => H _ _ _ _ _ _ (by rw [du_fs_6i x]; exact h'')))
    · exact br_f x (du_back ho40 ho hO h' (fun nw' lv' a9' a10' h' => du_fe36 hp ho40 hO h' (fun nw' lv' a7' a8' h'' => H _ _ _ _ _ _ (by rw [du_fs_6n x]; exact h''))))
  · refine br_f k2 ⟨ip1, nm_e ⟨ip1, nm_e ⟨io, ?_⟩⟩⟩
    have r := du_SF_ct (du_SF_rc h)
    by_cases k4 : a1 o = 4
    · rw [k4] at H
      exact br_t k4 (du_back ho40 (by omega) hO r (fun nw' lv' a9' a10' h' => du_fe101 ho40 hO h' (fun nw' lv' h'' => H _ _ _ _ _ _ (by rw [du_fs_64]; exact h''))))
    · have k5 : a1 o = 5 := by
        rcases hk with z | z | z
        · exact absurd z k2
        · exact absurd z k4
        · exact z
      rw [k5] at H
      exact br_f k4 (du_fe101 ho40 hO r (fun nw' lv' h'' => H _ _ _ _ _ _ (by rw [du_fs_65]; exact h'')))
theorem du_SF_se0 (e : lv = 0) (h : du_SF B O s nw lv a7 a8 a9 a10) : du_SF B O (du_se b s) nw lv a7 a8 a9 a10 := by
  obtain ⟨n1, l1, b1, c1, m1, y1⟩ := s
  obtain ⟨h1, h2, h7, h8, h9, h10⟩ := h
  have h2 : lv = du_b l1 := h2
  cases l1
  · exact ⟨h1, h2, h7, h8, h9, h10⟩
  · rw [e] at h2
    exact absurd h2 (by decide)
theorem du_SF_se1 (e : ¬ lv = 0) (h : du_SF B O s nw lv a7 a8 a9 a10) : du_SF B O (du_se b s) (nw ||| b) lv a7 a8 a9 a10 := by
  obtain ⟨n1, l1, b1, c1, m1, y1⟩ := s
  obtain ⟨h1, h2, h7, h8, h9, h10⟩ := h
  have h1 : nw = n1 := h1
  have h2 : lv = du_b l1 := h2
  cases l1
  · exact absurd h2 e
  · refine ⟨?_, h2, h7, h8, h9, h10⟩
    rw [h1]
    rfl
theorem du_f82 {x2 : Int32} (hx : du_o x2) (hp : p < 40) (h : post (ln, rd, gd, op, nw, lv, a1, a2, a3, a4, a5, a6, a7, a8, upd a9 p 63, upd a10 p 0, a11)) :
    wX_forward_82 post (nI p) x2 ln rd gd op nw lv a1 a2 a3 a4 a5 a6 a7 a8 a9 a10 a11 := by
  have cp : (nI p).toNatClampNeg = p := nI_clamp (by omega)
  have ip : vp_in (nI p) 40 := pk_in p 40 hp
  unfold wX_forward_82 wpX_openAt
  dsimp only
  rw [cp]
  refine ⟨ip, nm_e ⟨ip, nm_e ?_⟩⟩
  rcases hx with rfl | rfl | rfl
  · exact br_f (by decide) (br_f (by decide) (br_t (by decide) h))
  · exact br_f (by decide) (br_f (by decide) (br_t (by decide) h))
  · exact br_f (by decide) (br_f (by decide) (br_t (by decide) h))
theorem du_fwd (hp : p < 40) (hk : ∃ k, k ≤ 9 ∧ a1 p = nI k) (ho : a1 p = 3 ∨ a1 p = 6 ∨ a1 p = 7 → o < p ∧ a5 p = nI o ∧ du_o (a1 o))
    (h : du_SF p (fun q => q < p ∧ du_o (a1 q)) s nw lv a7 a8 a9 a10)
    (H : ∀ nw lv a7 a8 a9 a10, du_SF (p + 1) (fun q => q < p + 1 ∧ du_o (a1 q)) (du_fs (a1 p) ((1 : Int32) <<< (a2 p &&& 31)) o (a1 o) (a4 o) p s) nw lv a7 a8 a9 a10 → post (ln, rd, gd, op, nw, lv, a1, a2, a3, a4, a5, a6, a7, a8, a9, a10, a11)) :
    wpX_forward post (ln, rd, gd, op, nw, lv, a1, a2, a3, a4, a5, a6, a7, a8, a9, a10, a11) (nI p) := by
  have cp : (nI p).toNatClampNeg = p := nI_clamp (by omega)
  have ip : vp_in (nI p) 40 := pk_in p 40 hp
  have ip1 : vp_in (nI p) 41 := pk_in p 41 (by omega)
  have r := du_SF_rc h
  have hO : ¬ du_o (a1 p) → ∀ q, (q < p + 1 ∧ du_o (a1 q)) → (q < p ∧ du_o (a1 q)) := by
    intro n q hq
    have hne : q ≠ p := fun z => n (z ▸ hq.2)
    exact ⟨by omega, hq.2⟩
  have hO' : ∀ q, (q < p + 1 ∧ du_o (a1 q)) → q = p ∨ (q < p ∧ du_o (a1 q)) := by
    intro q hq
    by_cases z : q = p
    · exact Or.inl z
    · exact Or.inr ⟨by omega, hq.2⟩
  have hop : du_o (a1 p) → ∀ a9 a10, du_SF (p + 1) (fun q => q < p ∧ du_o (a1 q)) (du_rc p s) nw lv (upd a7 p nw) (upd a8 p (vp_nar .boolean lv)) a9 a10 →
      post (ln, rd, gd, op, nw, lv, a1, a2, a3, a4, a5, a6, upd a7 p nw, upd a8 p (vp_nar .boolean lv), upd a9 p 63, upd a10 p 0, a11) := by
    intro zo a9 a10 g
    refine H _ _ _ _ _ _ ?_
    rw [du_fs_o zo]
    exact du_SF_on hO' g
  unfold wpX_forward
  dsimp only
  rw [cp]
  refine ⟨ip, nm_e ?_⟩
  rcases du_k10 hk with z | z | z | z | z | z | z | z | z | z
  · have r' := du_SF_O (hO (by rw [z]; decide)) r
    rw [z] at H ⊢
    rw [du_fs_0] at H
    refine br_f (by decide) ⟨ip1, nm_e ⟨ip1, nm_e (br_t rfl (br_c (fun l0 => ?_) (fun l1 => ⟨ip, nm_e ?_⟩)))⟩⟩
    · exact br_f (by decide) (br_f (by decide) (br_f (by decide) (br_f (by decide) (br_f (by decide) (br_t (by decide) (H _ _ _ _ _ _ (du_SF_se0 l0 r')))))))
    · exact br_f (by decide) (br_f (by decide) (br_f (by decide) (br_f (by decide) (br_f (by decide) (br_t (by decide) (H _ _ _ _ _ _ (du_SF_se1 l1 r')))))))
  · have r' := du_SF_O (hO (by rw [z]; decide)) r
    rw [z] at H ⊢
    rw [du_fs_1] at H
    exact br_f (by decide) ⟨ip1, nm_e ⟨ip1, nm_e (br_f (by decide) (br_f (by decide) (br_f (by decide) (br_f (by decide) (br_f (by decide) (br_f (by decide) (br_t (by decide) (H _ _ _ _ _ _ r'))))))))⟩⟩
  · have g := hop (Or.inl z) a9 a10 r
    rw [z]
    exact br_f (by decide) ⟨ip1, nm_e ⟨ip1, nm_e (br_f (by decide) (br_t rfl (du_f82 (by decide) hp g)))⟩⟩
  · obtain ⟨o1, o2, o3⟩ := ho (Or.inl z)
    have r' := r
    rw [z] at H ⊢
    rw [du_fs_3] at H
    have i1 : vp_in (nI o) 41 := pk_in o 41 (by omega)
    have co : (nI o).toNatClampNeg = o := nI_clamp (by omega)
    refine br_f (by decide) ⟨ip1, nm_e ⟨ip1, nm_e (br_f (by decide) (br_f (by decide) (br_f (by decide) (br_f (by decide) (br_t rfl ?_)))))⟩⟩
    rw [cp, o2]
    refine ⟨ip, du_meet (by omega) ⟨o1, o3⟩ r' (fun nw' lv' a9' a10' h' => ?_)⟩
    dsimp only
    rw [o2, co]
    refine ⟨ip, i1, nm_e ⟨ip, i1, nm_e ⟨?_, ?_, ?_⟩⟩⟩
    · rw [h'.2.2.2.1 o (by omega)]
      exact du_nb _
    · rw [h'.2.2.2.1 o (by omega)]
      exact du_fb _
    · exact br_f (by decide) (br_t (by decide) (H _ _ _ _ _ _ (du_SF_O (hO (by rw [z]; decide)) (du_SF_tb (by omega) h'))))
  · have g := hop (Or.inr (Or.inl z)) a9 a10 r
    rw [z]
    exact br_f (by decide) ⟨ip1, nm_e ⟨ip1, nm_e (br_f (by decide) (br_f (by decide) (br_t rfl (du_f82 (by decide) hp g))))⟩⟩
  · have g := hop (Or.inr (Or.inr z)) a9 a10 r
    rw [z]
    exact br_f (by decide) ⟨ip1, nm_e ⟨ip1, nm_e (br_f (by decide) (br_f (by decide) (br_f (by decide) (br_t rfl (du_f82 (by decide) hp g)))))⟩⟩
  · obtain ⟨o1, o2, o3⟩ := ho (Or.inr (Or.inl z))
    have n6 := hO (by rw [z]; decide)
    rw [z] at H
    exact br_t z (du_fend hp o1 o2 o3 ⟨o1, o3⟩ h (fun nw' lv' a7' a8' a9' a10' h' => H _ _ _ _ _ _ (du_SF_O n6 h')))
  · obtain ⟨o1, o2, o3⟩ := ho (Or.inr (Or.inr z))
    have n7 := hO (by rw [z]; decide)
    rw [z] at H ⊢
    rw [du_fs_7] at H
    have co : (nI o).toNatClampNeg = o := nI_clamp (by omega)
    refine br_f (by decide) ⟨ip1, nm_e ⟨ip1, nm_e (br_f (by decide) (br_f (by decide) (br_f (by decide) (br_f (by decide) (br_f (by decide) (br_t rfl ?_))))))⟩⟩
    rw [cp, o2]
    exact ⟨ip, du_meet (by omega) ⟨o1, o3⟩ r (fun nw' lv' a9' a10' h' => br_f (by decide) (H _ _ _ _ _ _ (du_SF_O n7 (du_SF_ct h'))))⟩
  · have r' := du_SF_O (hO (by rw [z]; decide)) r
    rw [z] at H ⊢
    rw [du_fs_89 (Or.inl rfl)] at H
    exact br_f (by decide) ⟨ip1, nm_e ⟨ip1, nm_e (br_f (by decide) (br_f (by decide) (br_f (by decide) (br_f (by decide) (br_f (by decide) (br_f (by decide) (br_f (by decide) (H _ _ _ _ _ _ (du_SF_ct r')))))))))⟩⟩
  · have r' := du_SF_O (hO (by rw [z]; decide)) r
    rw [z] at H ⊢
    rw [du_fs_89 (Or.inr rfl)] at H
    exact br_f (by decide) ⟨ip1, nm_e ⟨ip1, nm_e (br_f (by decide) (br_f (by decide) (br_f (by decide) (br_f (by decide) (br_f (by decide) (br_f (by decide) (br_f (by decide) (H _ _ _ _ _ _ (du_SF_ct r')))))))))⟩⟩
end
end
section
/-! the passes backward: they end, and change the wanted sets alone -/
def du_B (n : Nat) (a1 a3 a4 a5 : Nat → Int32) : Prop := ∀ p, p < n →
  (∃ k, k ≤ 9 ∧ a1 p = nI k) ∧
  (a1 p = 3 ∨ a1 p = 6 ∨ a1 p = 7 ∨ a1 p = 8 → ∃ o, o < 40 ∧ a5 p = nI o ∧ (∃ e, e < 40 ∧ a3 o = nI e)) ∧
  (a1 p = 2 ∨ a1 p = 4 → ∃ e, e < 40 ∧ a3 p = nI e) ∧
  (a4 p = -1 ∨ ∃ e, e < 40 ∧ a4 p = nI e)
section
variable {ln rd gd op nw lv : Int32} {a1 a2 a3 a4 a5 a6 a7 a8 a9 a10 a11 : Nat → Int32} {n p : Nat}
theorem du_onward {post : Int32 → Prop} (hn : n ≤ 40) (hp : p < n) (hB : du_B n a1 a3 a4 a5) (H : ∀ m, m < 41 → post (nI m)) :
    wpX_onward post (nI n, rd, gd, op, nw, lv, a1, a2, a3, a4, a5, a6, a7, a8, a9, a10, a11) (nI p) := by
  have cp : (nI p).toNatClampNeg = p := nI_clamp (by omega)
  have ip : vp_in (nI p) 40 := pk_in p 40 (by omega)
  obtain ⟨hk, h5, _, _⟩ := hB p hp
  have hs : post (nI p + 1) := by
    rw [nI_1]
    exact H _ (by omega)
  unfold wpX_onward
  dsimp only
  rw [cp]
  refine ⟨ip, nm_e ?_⟩
  rcases du_k10 hk with z | z | z | z | z | z | z | z | z | z
  · rw [z]
    exact br_f (by decide) (br_f (by decide) (br_f (by decide) (br_f (by decide) (br_f (by decide) hs))))
  · rw [z]
    exact br_f (by decide) (br_f (by decide) (br_f (by decide) (br_f (by decide) (br_f (by decide) hs))))
  · rw [z]
    exact br_f (by decide) (br_f (by decide) (br_f (by decide) (br_f (by decide) (br_f (by decide) hs))))
  · obtain ⟨o, ho, eo, e, he, e3⟩ := h5 (Or.inl z)
    rw [z, eo, nI_clamp (show o < 2 ^ 31 by omega), e3]
    exact br_t rfl ⟨ip, pk_in o 40 ho, H e (by omega)⟩
  · rw [z]
    exact br_f (by decide) (br_f (by decide) (br_f (by decide) (br_f (by decide) (br_f (by decide) hs))))
  · rw [z]
    exact br_f (by decide) (br_f (by decide) (br_f (by decide) (br_f (by decide) (br_f (by decide) hs))))
  · obtain ⟨o, ho, eo, _⟩ := h5 (Or.inr (Or.inl z))
    rw [z, eo]
    refine br_f (by decide) (br_t rfl ⟨ip, pk_in o 40 ho, br_c (fun _ => ?_) (fun _ => ⟨ip, H o (by omega)⟩)⟩)
    exact br_f (by decide) (br_f (by decide) (br_f (by decide) hs))
  · obtain ⟨o, ho, eo, e, he, e3⟩ := h5 (Or.inr (Or.inr (Or.inl z)))
    rw [z]
    refine br_f (by decide) (br_f (by decide) (br_t rfl ?_))
    rw [cp, eo, nI_clamp (show o < 2 ^ 31 by omega), e3, nI_1]
    exact ⟨ip, pk_in o 40 ho, H (e + 1) (by omega)⟩
  · obtain ⟨o, ho, eo, _⟩ := h5 (Or.inr (Or.inr (Or.inr z)))
    rw [z]
    refine br_f (by decide) (br_f (by decide) (br_f (by decide) (br_t rfl ?_)))
    rw [cp, eo]
    exact ⟨ip, H o (by omega)⟩
  · rw [z]
    exact br_f (by decide) (br_f (by decide) (br_f (by decide) (br_f (by decide) (br_t rfl (H n (by omega))))))
theorem du_other {post : Int32 → Prop} (hn : n ≤ 40) (hp : p < n) (hB : du_B n a1 a3 a4 a5) (H : ∀ m, m < 41 → post (nI m)) (H1 : post (-1)) :
    wpX_otherWay post (nI n, rd, gd, op, nw, lv, a1, a2, a3, a4, a5, a6, a7, a8, a9, a10, a11) (nI p) := by
  have cp : (nI p).toNatClampNeg = p := nI_clamp (by omega)
  have ip : vp_in (nI p) 40 := pk_in p 40 (by omega)
  obtain ⟨_, _, h3, h4⟩ := hB p hp
  unfold wpX_otherWay
  dsimp only
  rw [cp]
  refine ⟨ip, br_c (fun z => ⟨ip, ?_⟩) (fun z => ⟨ip, br_c (fun y => ⟨ip, ?_⟩) (fun y => H1)⟩)⟩
  · obtain ⟨e, he, e3⟩ := h3 (Or.inr z)
    rw [e3, nI_1]
    exact H _ (by omega)
  · obtain ⟨e, he, e3⟩ := h3 (Or.inl y)
    refine br_c (fun x => ⟨ip, ?_⟩) (fun x => ⟨ip, ?_⟩)
    · rw [e3]
      exact H e (by omega)
    · rcases h4 with w | ⟨e', he', w⟩
      · exact absurd (by rw [w]; decide) x
      · rw [w, nI_1]
        exact H _ (by omega)
theorem du_wanted {post : Int32 → Prop} (hn : n ≤ 40) (hp : p < n) (hB : du_B n a1 a3 a4 a5) (H : ∀ x, post x) :
    wpX_wantedBehind post (nI n, rd, gd, op, nw, lv, a1, a2, a3, a4, a5, a6, a7, a8, a9, a10, a11) (nI p) := by
  unfold wpX_wantedBehind
  exact du_onward hn hp hB (fun m hm => ⟨pk_in m 41 hm, nm_e (du_other hn hp hB (fun m' hm' => br_t (nI_pos' (by omega)) ⟨pk_in m' 41 hm', H _⟩) (br_f (by decide) (H _)))⟩)
theorem du_b105 {post : St1 → Prop} {J27 J47 : Int32 → Int32 → (Nat → Int32) → (Nat → Int32) → (Nat → Int32) → (Nat → Int32) → (Nat → Int32) → (Nat → Int32) → (Nat → Int32) → (Nat → Int32) → (Nat → Int32) → (Nat → Int32) → (Nat → Int32) → Prop} {x1 x2 x4 : Int32} (hp : p < 40)
    (H : ∀ x1 a11, J47 x1 (nI p - 1) a1 a2 a3 a4 a5 a6 a7 a8 a9 a10 a11) :
    wX_backward_105 post J27 J47 x1 x2 (nI p) x4 ln rd gd op nw lv a1 a2 a3 a4 a5 a6 a7 a8 a9 a10 a11 := by
  have ip : vp_in (nI p) 41 := pk_in p 41 (by omega)
  unfold wX_backward_105
  exact ⟨ip, br_c (fun _ => ⟨ip, nm_e (nm_r (du_m1 _) (H _ _))⟩) (fun _ => ⟨ip, nm_e (nm_r (du_m1 _) (H _ _))⟩)⟩
theorem du_b82 {post : St1 → Prop} {J27 J47 : Int32 → Int32 → (Nat → Int32) → (Nat → Int32) → (Nat → Int32) → (Nat → Int32) → (Nat → Int32) → (Nat → Int32) → (Nat → Int32) → (Nat → Int32) → (Nat → Int32) → (Nat → Int32) → (Nat → Int32) → Prop} {x1 x2 x4 : Int32} (hp : p < 40)
    (H : ∀ x1 a11, J47 x1 (nI p - 1) a1 a2 a3 a4 a5 a6 a7 a8 a9 a10 a11) :
    wX_backward_82 post J27 J47 x1 x2 (nI p) x4 ln rd gd op nw lv a1 a2 a3 a4 a5 a6 a7 a8 a9 a10 a11 := by
  have ip : vp_in (nI p) 40 := pk_in p 40 hp
  unfold wX_backward_82
  exact ⟨ip, br_c (fun _ => ⟨ip, nm_e (du_b105 hp H)⟩) (fun _ => du_b105 hp H)⟩
theorem du_b47 {post : St1 → Prop} {J27 : Int32 → Int32 → (Nat → Int32) → (Nat → Int32) → (Nat → Int32) → (Nat → Int32) → (Nat → Int32) → (Nat → Int32) → (Nat → Int32) → (Nat → Int32) → (Nat → Int32) → (Nat → Int32) → (Nat → Int32) → Prop} {x1 x2 : Int32} (hn : n ≤ 40) (hB : du_B n a1 a3 a4 a5)
    (H : ∀ x1 a11, J27 x1 (x2 + 1) a1 a2 a3 a4 a5 a6 a7 a8 a9 a10 a11) :
    ∃ m, wX_backward_47 post J27 x2 (nI n) rd gd op nw lv m x1 (nI n - 1) a1 a2 a3 a4 a5 a6 a7 a8 a9 a10 a11 :=
  ⟨n + 1, pk_loopD (σ := Int32 × (Nat → Int32)) (fun m j s => wX_backward_47 post J27 x2 (nI n) rd gd op nw lv m s.1 (nI j - 1) a1 a2 a3 a4 a5 a6 a7 a8 a9 a10 s.2)
    (fun j _ => j ≤ n)
    (fun m s _ => br_t (by decide) (nm_e (H _ _)))
    (fun m j s hj hw => by
      have hj : j + 1 ≤ n := hj
      have ij : vp_in (nI j) 40 := pk_in j 40 (by omega)
      show wX_backward_47 post J27 x2 (nI n) rd gd op nw lv (m + 1) s.1 (nI (j + 1) - 1) a1 a2 a3 a4 a5 a6 a7 a8 a9 a10 s.2
      rw [nI_pred]
      refine br_f (nI_pos (by omega)) (du_wanted hn (by omega) hB (fun x => ⟨ij, br_c (fun _ => ⟨ij, nm_e ?_⟩) (fun _ => ?_)⟩))
      · exact du_b82 (by omega) (fun y1 y11 => hw (y1, y11) (by omega))
      · exact du_b82 (by omega) (fun y1 y11 => hw (y1, y11) (by omega))) n (x1, a11) (Nat.le_refl n)⟩
theorem du_b27 {post : St1 → Prop} (hn : n ≤ 40) (hB : du_B n a1 a3 a4 a5)
    (H : ∀ a11, post (nI n, rd, gd, op, nw, lv, a1, a2, a3, a4, a5, a6, a7, a8, a9, a10, a11)) :
    ∃ m, wX_backward_27 post (nI n) rd gd op nw lv m 1 0 a1 a2 a3 a4 a5 a6 a7 a8 a9 a10 a11 :=
  pk_loop (σ := Int32 × (Nat → Int32)) (fun m i s => wX_backward_27 post (nI n) rd gd op nw lv m s.1 (nI i) a1 a2 a3 a4 a5 a6 a7 a8 a9 a10 s.2)
    (fun _ _ => True) 241 0 (1, a11) (by omega) trivial
    (fun m s _ => br_t (by decide) (H _))
    (fun m i s hi _ hw => pk_lt 240 i (fun z => absurd z (by omega)) (fun _ => br_c (fun _ => H _) (fun _ => nm_e (du_b47 hn hB (fun y1 y11 => by rw [nI_1]; exact hw (y1, y11) trivial)))))
theorem du_bwd {post : St1 → Prop} (hn : n ≤ 40) (hB : du_B n a1 a3 a4 a5)
    (H : ∀ a11, post (nI n, rd, gd, op, nw, lv, a1, a2, a3, a4, a5, a6, a7, a8, a9, a10, a11)) :
    wpX_backward post (nI n, rd, gd, op, nw, lv, a1, a2, a3, a4, a5, a6, a7, a8, a9, a10, a11) := by
  unfold wpX_backward
  exact pk_loop (fun m i s => wX_backward_2 post (nI n) rd gd op nw lv m (nI i) a1 a2 a3 a4 a5 a6 a7 a8 a9 a10 s)
    (fun _ _ => True) (n + 1) 0 a11 (by omega) trivial
    (fun m s _ => pk_lt n (n + 1) (fun _ => du_b27 hn hB H) (fun z => absurd z (by omega)))
    (fun m i s hi _ hw => pk_lt n i (fun z => absurd z (by omega)) (fun _ => ⟨pk_in i 41 (by omega), nm_e (nm_r (nI_1 i) (hw _ trivial))⟩))
/-- what the first pass leaves is enough -/
theorem du_SS_B (hn : n ≤ 40) (hG : du_G a1 n) (h : du_SS a1 n op a3 a4 a5 a6) : du_B n a1 a3 a4 a5 := by
  obtain ⟨_, _, h3, h4, h5⟩ := h
  have J := du_Jp a1 n
  have cl : ∀ q, q < n → du_o (a1 q) → ∃ e, e < 40 ∧ a3 q = nI e := by
    intro q hq hqo
    rcases J.2.2.2.2.2 q hq hqo with ⟨i, hi, _⟩ | ⟨e, he, x⟩
    · rw [hG.2] at hi
      exact absurd hi (Nat.not_lt_zero i)
    · exact ⟨e, by omega, (h3 q hq).trans x⟩
  intro p hp
  refine ⟨(hG.1 p hp).1, fun z => ?_, fun z => ?_, ?_⟩
  · obtain ⟨s, hs, e, ho⟩ := du_op_in (hG.1 p hp) z
    exact ⟨s, by omega, (h5 p hp).trans e, cl s (by omega) ho⟩
  · exact cl p hp (by rcases z with z | z; exact Or.inl z; exact Or.inr (Or.inl z))
  · rcases J.2.2.2.2.1 p hp with x | ⟨e, he, x⟩
    · exact Or.inl ((h4 p hp).trans x)
    · exact Or.inr ⟨e, by omega, (h4 p hp).trans x⟩
end
end
section
/-! the methods, each against the picture -/
def du_R (n : Nat) (a v a7 a8 : Nat → Int32) : Prop := ∀ q, q < n → a7 q = du_bf a v n q ∧ a8 q = du_b (du_cm a v n q)
def du_Q (n : Nat) (a v : Nat → Int32) (u : St1) : Prop := match u with
  | (ln, rd, gd, _, _, _, a1, a2, _, _, _, _, a7, a8, _, _, _) => ln = nI n ∧ a1 = a ∧ a2 = v ∧ (rd = 0 ∨ (rd = 1 ∧ gd = 1 ∧ du_R n a v a7 a8))
section
variable {ln rd gd op nw lv : Int32} {a1 a2 a3 a4 a5 a6 a7 a8 a9 a10 a11 : Nat → Int32} {n p : Nat} {a v : Nat → Int32} {u : St1}
theorem du_prep {post : St1 → Prop} (hn : n ≤ 40) (hG : du_G a1 n) (hr : rd = 0 ∨ (rd = 1 ∧ gd = 1 ∧ du_R n a1 a2 a7 a8))
    (H : ∀ op nw lv a3 a4 a5 a6 a7 a8 a9 a10 a11, du_R n a1 a2 a7 a8 → post (nI n, 1, 1, op, nw, lv, a1, a2, a3, a4, a5, a6, a7, a8, a9, a10, a11)) :
    wpX_prepare post (nI n, rd, gd, op, nw, lv, a1, a2, a3, a4, a5, a6, a7, a8, a9, a10, a11) := by
  unfold wpX_prepare
  rcases hr with e | ⟨e, g, R⟩
  · refine br_t e (du_find hn hG (fun op' b3 b4 b5 b6 hS => br_f (by decide) ?_))
    have hB := du_SS_B hn hG hS
    have cn : (nI n).toNatClampNeg = n := nI_clamp (by omega)
    refine pk_loop (σ := Int32 × Int32 × (Nat → Int32) × (Nat → Int32) × (Nat → Int32) × (Nat → Int32))
      (fun m i s => wX_prepare_37 post m (nI i) (nI n) 1 1 op' s.1 s.2.1 a1 a2 b3 b4 b5 b6 s.2.2.1 s.2.2.2.1 s.2.2.2.2.1 s.2.2.2.2.2 a11)
      (fun i s => du_SF i (fun q => q < i ∧ du_o (a1 q)) (du_fr a1 a2 n i) s.1 s.2.1 s.2.2.1 s.2.2.2.1 s.2.2.2.2.1 s.2.2.2.2.2) n 0 (0, 1, a7, a8, a9, a10) (Nat.zero_le n) ?_ ?_ ?_
    · exact ⟨rfl, rfl, fun q hq => absurd hq (Nat.not_lt_zero q), fun q hq => absurd hq (Nat.not_lt_zero q), fun q hq => absurd hq.1 (Nat.not_lt_zero q), fun q hq => absurd hq.1 (Nat.not_lt_zero q)⟩
    · intro m s h
      refine pk_le n n (fun _ => ⟨pk_in n 41 (by omega), nm_e ⟨pk_in n 41 (by omega), nm_e (du_bwd hn hB (fun b11 => H _ _ _ _ _ _ _ _ _ _ _ _ (fun q hq => ?_)))⟩⟩) (fun z => absurd z (by omega))
      rw [cn, pk_un (by omega), pk_un (by omega)]
      exact ⟨h.2.2.1 q hq, h.2.2.2.1 q hq⟩
    · intro m i s hi h hw
      have oi : a1 i = 3 ∨ a1 i = 6 ∨ a1 i = 7 → (du_op a1 i).toNatClampNeg < i ∧ b5 i = nI (du_op a1 i).toNatClampNeg ∧ du_o (a1 (du_op a1 i).toNatClampNeg) := by
        intro z
        obtain ⟨s, hs, e, ho⟩ := du_op_in (hG.1 i hi) (by rcases z with z | z | z; exact Or.inl z; exact Or.inr (Or.inl z); exact Or.inr (Or.inr (Or.inl z)))
        rw [hS.2.2.2.2 i hi, e, nI_clamp (show s < 2 ^ 31 by omega)]
        exact ⟨hs, rfl, ho⟩
      have ef : ∀ t, du_fs (a1 i) ((1 : Int32) <<< (a2 i &&& 31)) (du_op a1 i).toNatClampNeg (a1 (du_op a1 i).toNatClampNeg) (b4 (du_op a1 i).toNatClampNeg) i t = du_fs (a1 i) ((1 : Int32) <<< (a2 i &&& 31)) (du_op a1 i).toNatClampNeg (a1 (du_op a1 i).toNatClampNeg) ((du_sc a1 n).2.2.2 (du_op a1 i).toNatClampNeg) i t := by
        intro t
        by_cases z : a1 i = 6
        · rw [hS.2.2.2.1 _ (by have := (oi (Or.inr (Or.inl z))).1; omega)]
        · exact du_fs_ko z
      refine pk_le n i (fun z => absurd z (by omega)) (fun _ => du_fwd (o := (du_op a1 i).toNatClampNeg) (by omega) (hG.1 i hi).1 oi h (fun nw' lv' b7 b8 b9 b10 h' => nm_r (nI_1 i) (hw (nw', lv', b7, b8, b9, b10) ?_)))
      rw [ef] at h'
      exact h'
  · subst e g
    exact br_f (by decide) (H _ _ _ _ _ _ _ _ _ _ _ _ R)
theorem du_sound {post : Int32 → St1 → Prop} (hn : n ≤ 40) (hG : du_G a n) (hQ : du_Q n a v u) (H : ∀ u', du_Q n a v u' → post 1 u') : wpX_sound post u := by
  obtain ⟨ln, rd, gd, op, nw, lv, b1, b2, b3, b4, b5, b6, b7, b8, b9, b10, b11⟩ := u
  obtain ⟨rfl, rfl, rfl, hr⟩ := hQ
  unfold wpX_sound
  exact du_prep hn hG hr (fun op nw lv a3 a4 a5 a6 a7 a8 a9 a10 a11 R => ⟨rfl, H _ ⟨rfl, rfl, rfl, Or.inr ⟨rfl, rfl, R⟩⟩⟩)
theorem du_reached {post : Int32 → St1 → Prop} (hn : n ≤ 40) (hG : du_G a n) (hQ : du_Q n a v u) (hp : p < n) (H : ∀ u', du_Q n a v u' → post (du_b (du_cm a v n p)) u') : wpX_reached post u (nI p) := by
  have cp : (nI p).toNatClampNeg = p := nI_clamp (by omega)
  obtain ⟨ln, rd, gd, op, nw, lv, b1, b2, b3, b4, b5, b6, b7, b8, b9, b10, b11⟩ := u
  obtain ⟨rfl, rfl, rfl, hr⟩ := hQ
  unfold wpX_reached
  refine du_prep hn hG hr (fun op nw lv a3 a4 a5 a6 a7 a8 a9 a10 a11 R => ?_)
  dsimp only
  rw [cp]
  refine br_f (by decide) (br_f (nI_pos (by omega)) (br_t (nI_lt hp (by omega)) (br_t rfl ⟨pk_in p 41 (by omega), ?_⟩)))
  have r8 := (R p hp).2
  rw [r8]
  cases c : du_cm b1 b2 n p
  · rw [c] at H
    exact br_t rfl (H _ ⟨rfl, rfl, rfl, Or.inr ⟨rfl, rfl, R⟩⟩)
  · rw [c] at H
    exact br_f (by decide) (H _ ⟨rfl, rfl, rfl, Or.inr ⟨rfl, rfl, R⟩⟩)
theorem du_surely {post : Int32 → St1 → Prop} (hn : n ≤ 40) (hG : du_G a n) (hQ : du_Q n a v u) (hp : p < n) (H : ∀ u', du_Q n a v u' → post (du_sv a v n p) u') : wpX_surely post u (nI p) := by
  have cp : (nI p).toNatClampNeg = p := nI_clamp (by omega)
  obtain ⟨ln, rd, gd, op, nw, lv, b1, b2, b3, b4, b5, b6, b7, b8, b9, b10, b11⟩ := u
  obtain ⟨rfl, rfl, rfl, hr⟩ := hQ
  unfold wpX_surely
  refine du_prep hn hG hr (fun op nw lv a3 a4 a5 a6 a7 a8 a9 a10 a11 R => ?_)
  dsimp only
  rw [cp]
  refine br_f (by decide) (br_f (nI_pos (by omega)) (br_t (nI_lt hp (by omega)) (br_t rfl ⟨pk_in p 41 (by omega), ?_⟩)))
  obtain ⟨r7, r8⟩ := R p hp
  have g := H (nI n, 1, 1, op, nw, lv, b1, b2, a3, a4, a5, a6, a7, a8, a9, a10, a11) ⟨rfl, rfl, rfl, Or.inr ⟨rfl, rfl, R⟩⟩
  unfold du_sv at g
  rw [r8, r7]
  cases c : du_cm b1 b2 n p
  · rw [c, if_neg (by decide)] at g
    exact br_t rfl g
  · rw [c, if_pos rfl] at g
    exact br_f (by decide) ⟨pk_in p 41 (by omega), g⟩
theorem du_doubts {post : Int32 → St1 → Prop} (hn : n ≤ 40) (hG : du_G a n) (hQ : du_Q n a v u) (h1 : ∀ q, q < n → ¬ a q = 1) (H : ∀ u', du_Q n a v u' → post 0 u') : wpX_doubts post u := by
  obtain ⟨ln, rd, gd, op, nw, lv, b1, b2, b3, b4, b5, b6, b7, b8, b9, b10, b11⟩ := u
  obtain ⟨rfl, rfl, rfl, hr⟩ := hQ
  unfold wpX_doubts
  refine du_prep hn hG hr (fun op nw lv a3 a4 a5 a6 a7 a8 a9 a10 a11 R => br_f (by decide) ?_)
  exact pk_loop (σ := Unit) (fun m i _ => wX_doubts_18 post (nI n) 1 1 op nw lv b1 b2 a3 a4 a5 a6 a7 a8 a9 a10 a11 m 0 (nI i)) (fun _ _ => True) n 0 () (Nat.zero_le n) trivial
    (fun m s _ => pk_le n n (fun _ => H _ ⟨rfl, rfl, rfl, Or.inr ⟨rfl, rfl, R⟩⟩) (fun z => absurd z (by omega)))
    (fun m i s hi _ hw => pk_le n i (fun z => absurd z (by omega)) (fun _ => ⟨pk_in i 40 (by omega), br_f (by rw [nI_clamp (by omega)]; exact h1 i hi) (nm_r (nI_1 i) (hw () trivial))⟩))
theorem du_badv {post : Int32 → Prop} {k w : Nat} (hk : k ≤ 9) (hw : w ≤ 5) (H : post 0) : wpX_badVariable post () (nI k) (nI w) := by
  have g : wX_badVariable_9 post (nI w) := br_f (nI_pos (by omega)) (br_t (nI_le (b := 5) hw (by decide)) H)
  exact br_c (fun _ => g) (fun _ => br_c (fun _ => g) (fun _ => H))
theorem du_change {post : Int32 → St1 → Prop} {k w : Nat} (hn : n ≤ 40) (hQ : du_Q n a v u) (hp : p < n) (hk : k ≤ 9) (hw : w ≤ 5)
    (H : ∀ x u', du_Q n (upd a p (nI k)) (upd v p x) u' → post (a p) u') : wpX_change post u (nI p) (nI k) (nI w) := by
  have cp : (nI p).toNatClampNeg = p := nI_clamp (by omega)
  have ip : vp_in (nI p) 40 := pk_in p 40 (by omega)
  obtain ⟨ln, rd, gd, op, nw, lv, b1, b2, b3, b4, b5, b6, b7, b8, b9, b10, b11⟩ := u
  obtain ⟨rfl, rfl, rfl, hr⟩ := hQ
  unfold wpX_change
  dsimp only
  rw [cp]
  refine br_f (nI_pos (by omega)) (br_t (nI_lt hp (by omega)) (br_t rfl (br_f (nI_pos (by omega)) (br_t (nI_le (b := 9) hk (by decide)) (du_badv hk hw (br_t rfl ⟨ip, nm_e ⟨ip, nm_e ?_⟩⟩))))))
  exact br_c (fun _ => ⟨ip, nm_e (H _ _ ⟨rfl, rfl, rfl, Or.inl rfl⟩)⟩) (fun _ => ⟨ip, nm_e (H _ _ ⟨rfl, rfl, rfl, Or.inl rfl⟩)⟩)
end
end
section
/-! bits of the law's own stack (rows turned from the kit's rows on bits) -/
def du_bi (x : Int32) (i : Nat) : Bool := x.toBitVec.getLsbD i
theorem du_bi_ext {x y : Int32} (h : ∀ i, i < 32 → du_bi x i = du_bi y i) : x = y := Int32.toBitVec_inj.mp (BitVec.eq_of_getLsbD_eq (fun i hi => h i hi))
theorem du_bi_or (x y : Int32) (i : Nat) : du_bi (x ||| y) i = (du_bi x i || du_bi y i) := by unfold du_bi; rw [Int32.toBitVec_or, BitVec.getLsbD_or]
theorem du_bi_and (x y : Int32) (i : Nat) : du_bi (x &&& y) i = (du_bi x i && du_bi y i) := by unfold du_bi; rw [Int32.toBitVec_and, BitVec.getLsbD_and]
theorem du_bi_xor (x y : Int32) (i : Nat) : du_bi (x ^^^ y) i = (du_bi x i ^^ du_bi y i) := by unfold du_bi; rw [Int32.toBitVec_xor, BitVec.getLsbD_xor]
theorem du_bi_sl : ∀ n, n < 32 → ((nI n &&& 31).toBitVec.smod 32).toNat = n := by decide +kernel
theorem du_bi_shl (n : Nat) (hn : n < 32) (x : Int32) {i : Nat} (hi : i < 32) : du_bi (x <<< (nI n &&& 31)) i = (decide (n ≤ i) && du_bi x (i - n)) := by
  unfold du_bi
  rw [Int32.toBitVec_shiftLeft]
  show (x.toBitVec <<< ((nI n &&& 31).toBitVec.smod 32).toNat).getLsbD i = _
  rw [du_bi_sl n hn, BitVec.getLsbD_shiftLeft]
  rcases Nat.lt_or_ge i n with h | h
  · simp [h, Nat.not_le.mpr h]
  · simp [hi, h, Nat.not_lt.mpr h]
theorem du_bi_shr (n : Nat) (hn : n < 32) (x : Int32) {i : Nat} (hi : i < 32) (h : n + i < 32) : du_bi (x >>> (nI n &&& 31)) i = du_bi x (n + i) := by
  unfold du_bi
  rw [Int32.toBitVec_shiftRight]
  show (x.toBitVec.sshiftRight ((nI n &&& 31).toBitVec.smod 32).toNat).getLsbD i = _
  rw [du_bi_sl n hn, BitVec.getLsbD_sshiftRight]
  simp [hi, h]
theorem du_bi_c : ∀ c, c < 4 → ∀ m, m < 32 → 2 ≤ m → du_bi (nI c) m = false := by decide +kernel
theorem du_bi_3 : ∀ m, m < 2 → du_bi 3 m = true := by decide +kernel
theorem du_bi_3n {m : Nat} (hm : m < 32) (h : 2 ≤ m) : du_bi 3 m = false := du_bi_c 3 (by decide) m hm h
/-- the code at level i -/
def du_cd (x : Int32) (i : Nat) : Int32 := (x >>> (nI (2 * i) &&& 31)) &&& 3
theorem du_cd_b (x : Int32) {i m : Nat} (hi : i < 15) (hm : m < 2) : du_bi (du_cd x i) m = du_bi x (2 * i + m) := by
  unfold du_cd
  rw [du_bi_and, du_bi_3 m hm, Bool.and_true, du_bi_shr (2 * i) (by omega) x (by omega) (by omega)]
theorem du_cd_h (x : Int32) (i : Nat) {m : Nat} (hm : m < 32) (h : 2 ≤ m) : du_bi (du_cd x i) m = false := by
  unfold du_cd
  rw [du_bi_and, du_bi_3n hm h, Bool.and_false]
def du_pu (x : Int32) (j c : Nat) : Int32 := (x &&& (((3 : Int32) <<< (nI (2 * j) &&& 31)) ^^^ (-1))) ||| (nI c <<< (nI (2 * j) &&& 31))
theorem du_pu_b (x : Int32) {j c m : Nat} (hj : j < 15) (hm : m < 32) :
    du_bi (du_pu x j c) m = ((du_bi x m && ((decide (2 * j ≤ m) && du_bi 3 (m - 2 * j)) ^^ true)) || (decide (2 * j ≤ m) && du_bi (nI c) (m - 2 * j))) := by
  unfold du_pu
  have m1 : du_bi (-1) m = true := du_m1b m hm
  rw [du_bi_or, du_bi_and, du_bi_xor, m1, du_bi_shl (2 * j) (by omega) _ hm, du_bi_shl (2 * j) (by omega) _ hm]
theorem du_pu_eq (x : Int32) {j c : Nat} (hj : j < 15) (hc : c < 4) : du_cd (du_pu x j c) j = nI c := by
  apply du_bi_ext
  intro m hm
  by_cases h : m < 2
  · rw [du_cd_b _ hj h, du_pu_b x hj (by omega)]
    have e : 2 * j + m - 2 * j = m := by omega
    rw [e, du_bi_3 m h, decide_eq_true (show 2 * j ≤ 2 * j + m by omega)]
    cases du_bi x (2 * j + m) <;> cases du_bi (nI c) m <;> rfl
  · rw [du_cd_h _ _ hm (by omega), du_bi_c c hc m hm (by omega)]
theorem du_pu_ne (x : Int32) {i j c : Nat} (hi : i < 15) (hj : j < 15) (hc : c < 4) (hij : i ≠ j) : du_cd (du_pu x j c) i = du_cd x i := by
  apply du_bi_ext
  intro m hm
  by_cases h : m < 2
  · rw [du_cd_b _ hi h, du_cd_b _ hi h, du_pu_b x hj (by omega)]
    by_cases z : i < j
    · rw [decide_eq_false (show ¬ 2 * j ≤ 2 * i + m by omega)]
      cases du_bi x (2 * i + m) <;> rfl
    · rw [du_bi_3n (m := 2 * i + m - 2 * j) (by omega) (by omega), du_bi_c c hc (2 * i + m - 2 * j) (by omega) (by omega)]
      cases du_bi x (2 * i + m) <;> cases decide (2 * j ≤ 2 * i + m) <;> rfl
  · rw [du_cd_h _ _ hm (by omega), du_cd_h _ _ hm (by omega)]

/-! the builder's invariant -/
def du_code (a : Nat → Int32) (t : du_T) (i : Nat) : Int32 := if a (t.2.1 i) = 2 then (if t.2.2.2 (t.2.1 i) = -1 then 1 else 2) else 3
theorem du_code_1 {a : Nat → Int32} {t : du_T} {i : Nat} (h : du_code a t i = 1) : a (t.2.1 i) = 2 ∧ t.2.2.2 (t.2.1 i) = -1 := by
  unfold du_code at h
  by_cases z : a (t.2.1 i) = 2
  · rw [if_pos z] at h
    by_cases y : t.2.2.2 (t.2.1 i) = -1
    · exact ⟨z, y⟩
    · rw [if_neg y] at h
      exact absurd h (by decide)
  · rw [if_neg z] at h
    exact absurd h (by decide)
theorem du_code_3 {a : Nat → Int32} {t : du_T} {i : Nat} (h : du_code a t i = 3) : ¬ a (t.2.1 i) = 2 := by
  intro z
  unfold du_code at h
  rw [if_pos z] at h
  by_cases y : t.2.2.2 (t.2.1 i) = -1
  · rw [if_pos y] at h
    exact absurd h (by decide)
  · rw [if_neg y] at h
    exact absurd h (by decide)
def du_sn (w n : Nat) (x9 : Int32) (a : Nat → Int32) : Prop := (w < n → ∃ k v, k ≤ 9 ∧ v ≤ 5 ∧ a w = nI k ∧ x9 = nI (k + 16 * v)) ∧ (n ≤ w → x9 = 0)
def du_I (w n d : Nat) (x7 x9 : Int32) (a : Nat → Int32) : Prop :=
  n + d ≤ 40 ∧ d ≤ 5 ∧ d = (du_sc a n).1 ∧ (∀ p, p < n → du_ok a p) ∧ (∀ i, i < d → du_cd x7 i = du_code a (du_sc a n) i) ∧ du_sn w n x9 a
/-- which kinds may come -/
def du_al (n d : Nat) (x7 : Int32) (z : Nat) : Prop :=
  z ≤ 10 ∧ (z ≤ 9 → z = 6 ∨ n + d < 40) ∧ (z = 2 ∨ z = 4 ∨ z = 5 → d ≤ 4 ∧ n + d + 2 ≤ 40) ∧ (z = 3 → 0 < d ∧ du_cd x7 (d - 1) = 1) ∧ (z = 6 → 0 < d) ∧ (z = 7 ∨ z = 8 → ∃ i, i < d ∧ du_cd x7 i = 3)
/-- the law's stack behind a token of kind z -/
def du_nx7 (d : Nat) (x7 : Int32) (z : Nat) : Int32 := if z = 2 then du_pu x7 d 1 else if z = 4 ∨ z = 5 then du_pu x7 d 3 else if z = 3 then du_pu x7 (d - 1) 2 else x7
def du_nd (d z : Nat) : Nat := if z = 2 ∨ z = 4 ∨ z = 5 then d + 1 else if z = 6 then d - 1 else d
theorem du_n9 {z : Nat} (hz : z ≤ 9) : z = 0 ∨ z = 1 ∨ z = 2 ∨ z = 3 ∨ z = 4 ∨ z = 5 ∨ z = 6 ∨ z = 7 ∨ z = 8 ∨ z = 9 := by omega
theorem du_upq {a : Nat → Int32} {n : Nat} {x : Int32} : ∀ q, q < n → du_q (a q) (upd a n x q) := by
  intro q hq
  rw [pk_un (by omega)]
  exact Or.inl rfl
theorem du_sn_s {w n z v : Nat} {x9 : Int32} {a : Nat → Int32} (hz : z ≤ 9) (hv : v ≤ 5) (h : du_sn w n x9 a) :
    du_sn w (n + 1) (if n = w then nI (z + 16 * v) else x9) (upd a n (nI z)) := by
  obtain ⟨h1, h2⟩ := h
  by_cases e : n = w
  · rw [if_pos e]
    exact ⟨fun _ => ⟨z, v, hz, hv, by rw [e, pk_us], rfl⟩, fun y => absurd y (by omega)⟩
  · rw [if_neg e]
    refine ⟨fun y => ?_, fun y => h2 (by omega)⟩
    obtain ⟨k, v', g1, g2, g3, g4⟩ := h1 (by omega)
    exact ⟨k, v', g1, g2, by rw [pk_un (by omega)]; exact g3, g4⟩
theorem du_I_s {w n d z v : Nat} {x7 x9 : Int32} {a : Nat → Int32} (hz : z ≤ 9) (hv : v ≤ 5) (h : du_I w n d x7 x9 a) (hal : du_al n d x7 z) :
    du_I w (n + 1) (du_nd d z) (du_nx7 d x7 z) (if n = w then nI (z + 16 * v) else x9) (upd a n (nI z)) := by
  obtain ⟨h1, h2, h3, h4, h5, h6⟩ := h
  obtain ⟨_, l9, lo, l3, l6, l7⟩ := hal
  have hsn := du_sn_s (z := z) (v := v) hz hv h6
  have J := du_Jp a n
  obtain ⟨j1, j2, j3, _, _, _⟩ := J
  have es : du_sc (upd a n (nI z)) n = du_sc a n := (du_q_sc du_upq).symm
  have es1 : du_sc (upd a n (nI z)) (n + 1) = du_st (nI z) n (du_sc a n) := by
    show du_st (upd a n (nI z) n) n (du_sc (upd a n (nI z)) n) = _
    rw [pk_us, es]
  have hok : ∀ p, p < n → du_ok (upd a n (nI z)) p := fun p hp => du_q_ok (fun q hq => du_upq q (by omega)) (h4 p hp)
  have hok1 : du_ok (upd a n (nI z)) n := by
    unfold du_ok
    rw [es, pk_us, ← h3]
    refine ⟨⟨z, hz, rfl⟩, fun y => ?_, fun y => ?_, fun y => ?_⟩
    · have y : z = 3 := (nI_eq (b := 3) (by omega) (by decide)).mp y
      obtain ⟨d0, c⟩ := l3 y
      have c' := du_code_1 ((h5 (d - 1) (by omega)).symm.trans c)
      have := (j2 (d - 1) (by omega)).1
      rw [pk_un (by omega)]
      exact ⟨d0, c'⟩
    · exact l6 ((nI_eq (b := 6) (by omega) (by decide)).mp y)
    · have y : z = 7 ∨ z = 8 := by
        rcases y with y | y
        · exact Or.inl ((nI_eq (b := 7) (by omega) (by decide)).mp y)
        · exact Or.inr ((nI_eq (b := 8) (by omega) (by decide)).mp y)
      obtain ⟨i, hi, c⟩ := l7 y
      have := (j2 i (by omega)).1
      refine ⟨i, hi, ?_⟩
      rw [pk_un (by omega)]
      exact du_code_3 ((h5 i hi).symm.trans c)
  have hok2 : ∀ p, p < n + 1 → du_ok (upd a n (nI z)) p := by
    intro p hp
    by_cases e : p = n
    · rw [e]
      exact hok1
    · exact hok p (by omega)
  have cold : ∀ i, i < d → ∀ t : du_T, t.2.1 i = (du_sc a n).2.1 i → t.2.2.2 ((du_sc a n).2.1 i) = (du_sc a n).2.2.2 ((du_sc a n).2.1 i) → du_code (upd a n (nI z)) t i = du_cd x7 i := by
    intro i hi t t1 t2
    have := (j2 i (by omega)).1
    rw [h5 i hi]
    unfold du_code
    rw [t1, t2, pk_un (by omega)]
  have eln : ∀ i, i < d → upd (du_sc a n).2.2.2 n (-1) ((du_sc a n).2.1 i) = (du_sc a n).2.2.2 ((du_sc a n).2.1 i) := by
    intro i hi
    have := (j2 i (by omega)).1
    rw [pk_un (by omega)]
  unfold du_I
  rw [es1]
  by_cases zo : z = 2 ∨ z = 4 ∨ z = 5
  · obtain ⟨d4, nd⟩ := lo zo
    have hst := du_st_o (k := nI z) n (du_sc a n) (by rcases zo with e | e | e <;> rw [e] <;> decide)
    have e1 : du_nd d z = d + 1 := if_pos zo
    have ex : ∃ c, c < 4 ∧ du_nx7 d x7 z = du_pu x7 d c ∧ nI c = (if nI z = 2 then 1 else 3) := by
      rcases zo with e | e | e
      · rw [e]
        exact ⟨1, by omega, rfl, rfl⟩
      · rw [e]
        exact ⟨3, by omega, rfl, rfl⟩
      · rw [e]
        exact ⟨3, by omega, rfl, rfl⟩
    obtain ⟨c, hc, ec, ec'⟩ := ex
    rw [e1, ec, hst]
    refine ⟨by omega, by omega, by show d + 1 = (du_sc a n).1 + 1; rw [h3], hok2, fun i hi => ?_, hsn⟩
    by_cases e : i = d
    · rw [e, du_pu_eq _ (by omega) hc, ec']
      unfold du_code
      rw [h3]
      show _ = if upd a n (nI z) (va_up (du_sc a n).2.1 (du_sc a n).1 n (du_sc a n).1) = 2 then (if upd (du_sc a n).2.2.2 n (-1) (va_up (du_sc a n).2.1 (du_sc a n).1 n (du_sc a n).1) = -1 then (1 : Int32) else 2) else 3
      rw [du_vs, pk_us, pk_us, if_pos rfl]
    · rw [du_pu_ne _ (by omega) (by omega) hc e]
      refine (cold i (by omega) _ ?_ (eln i (by omega))).symm
      show va_up (du_sc a n).2.1 (du_sc a n).1 n i = _
      rw [du_vn (by omega)]
  · have nzo : ¬ du_o (nI z) := by
      intro y
      rcases y with y | y | y
      · exact zo (Or.inl ((nI_eq (b := 2) (by omega) (by decide)).mp y))
      · exact zo (Or.inr (Or.inl ((nI_eq (b := 4) (by omega) (by decide)).mp y)))
      · exact zo (Or.inr (Or.inr ((nI_eq (b := 5) (by omega) (by decide)).mp y)))
    by_cases z3 : z = 3
    · obtain ⟨d0, c⟩ := l3 z3
      have c' := du_code_1 ((h5 (d - 1) (by omega)).symm.trans c)
      have e1 : du_nd d z = d := by rw [z3]; rfl
      have e2 : du_nx7 d x7 z = du_pu x7 (d - 1) 2 := by rw [z3]; rfl
      have hst := du_st_3 n (du_sc a n)
      rw [show (3 : Int32) = nI z from by rw [z3]; rfl] at hst
      have n40 : n + d < 40 := by rcases l9 hz with y | y <;> omega
      have js := (j2 (d - 1) (by omega)).1
      rw [e1, e2, hst]
      refine ⟨by omega, h2, h3, hok2, fun i hi => ?_, hsn⟩
      by_cases e : i = d - 1
      · rw [e, du_pu_eq _ (by omega) (by omega)]
        unfold du_code
        show _ = if upd a n (nI z) ((du_sc a n).2.1 (d - 1)) = 2 then (if upd (upd (du_sc a n).2.2.2 n (-1)) ((du_sc a n).2.1 ((du_sc a n).1 - 1)) (nI n) ((du_sc a n).2.1 (d - 1)) = -1 then (1 : Int32) else 2) else 3
        rw [pk_un (by omega), if_pos c'.1, ← h3, pk_us, if_neg ?_]
        · rfl
        · intro y
          exact absurd (show nI n < 0 by rw [y]; decide) (nI_pos (by omega))
      · rw [du_pu_ne _ (by omega) (by omega) (by omega) e]
        refine (cold i hi ((du_sc a n).1, (du_sc a n).2.1, upd (du_sc a n).2.2.1 n (-1), upd (upd (du_sc a n).2.2.2 n (-1)) ((du_sc a n).2.1 ((du_sc a n).1 - 1)) (nI n)) rfl ?_).symm
        show upd (upd (du_sc a n).2.2.2 n (-1)) ((du_sc a n).2.1 ((du_sc a n).1 - 1)) (nI n) ((du_sc a n).2.1 i) = _
        have lt := j3 i (d - 1) (by omega) (by omega)
        rw [← h3, pk_un (by omega)]
        exact eln i hi
    · have e2 : du_nx7 d x7 z = x7 := by
        unfold du_nx7
        rw [if_neg (fun y => zo (Or.inl y)), if_neg (fun y => zo (Or.inr y)), if_neg z3]
      by_cases z6 : z = 6
      · have d0 := l6 z6
        have e1 : du_nd d z = d - 1 := by rw [z6]; rfl
        have hst := du_st_6 n (du_sc a n)
        rw [show (6 : Int32) = nI z from by rw [z6]; rfl] at hst
        rw [e1, e2, hst]
        exact ⟨by omega, by omega, by show d - 1 = (du_sc a n).1 - 1; rw [h3], hok2, fun i hi => (cold i (by omega) ((du_sc a n).1 - 1, (du_sc a n).2.1, upd (upd (du_sc a n).2.2.1 n (-1)) ((du_sc a n).2.1 ((du_sc a n).1 - 1)) (nI n), upd (du_sc a n).2.2.2 n (-1)) rfl (eln i (by omega))).symm, hsn⟩
      · have e1 : du_nd d z = d := by
          unfold du_nd
          rw [if_neg zo, if_neg z6]
        have hst := du_st_e (k := nI z) n (du_sc a n) nzo (fun y => z3 ((nI_eq (b := 3) (by omega) (by decide)).mp y)) (fun y => z6 ((nI_eq (b := 6) (by omega) (by decide)).mp y))
        have n40 : n + d < 40 := by rcases l9 hz with y | y <;> omega
        rw [e1, e2, hst]
        exact ⟨by omega, h2, h3, hok2, fun i hi => (cold i hi ((du_sc a n).1, (du_sc a n).2.1, upd (du_sc a n).2.2.1 n (-1), upd (du_sc a n).2.2.2 n (-1)) rfl (eln i hi)).symm, hsn⟩
end
section
/-! the walk through the builder -/
abbrev du_JT : Type := Int32 → Int32 → Int32 → Int32 → Int32 → Int32 → Int32 → Int32 → Int32 → Int32 → Int32 → (Nat → Int32) → (Nat → Int32) → (Nat → Int32) → (Nat → Int32) → (Nat → Int32) → (Nat → Int32) → (Nat → Int32) → (Nat → Int32) → (Nat → Int32) → (Nat → Int32) → (Nat → Int32) → Prop
def du_ww (k v : Nat) : Int32 := if 1 < k then 0 else nI v
theorem du_pue (x : Int32) (d c : Nat) : (x &&& (((3 : Int32) <<< ((2 * nI d) &&& 31)) ^^^ (-1))) ||| (nI c <<< ((2 * nI d) &&& 31)) = du_pu x d c := by
  have e : 2 * nI d = nI (2 * d) := pk_mul 2 d
  rw [e]
  rfl
theorem du_2d {d : Nat} (hd : 0 < d) : 2 * nI d - 2 = nI (2 * (d - 1)) := by
  have e : 2 * nI d = nI (2 * d) := pk_mul 2 d
  have e2 : nI (2 * d) - 2 = nI (2 * d - 2) := pk_sub (b := 2) (by omega)
  rw [e, e2]
  exact congrArg nI (by omega)
theorem du_puf (x : Int32) {d c : Nat} (hd : 0 < d) : (x &&& (((3 : Int32) <<< (((2 * nI d) - 2) &&& 31)) ^^^ (-1))) ||| (nI c <<< (((2 * nI d) - 2) &&& 31)) = du_pu x (d - 1) c := by
  rw [du_2d hd]
  rfl
theorem du_s2 (n d c : Nat) : nI n + nI d + nI c = nI (n + d + c) := by rw [nI_add, nI_add]
/-- the flag of loops behind i turns -/
def du_lf (x : Int32) (d : Nat) : Nat → Int32
  | 0 => 0
  | i + 1 => if i < d ∧ du_cd x i = 3 then 1 else du_lf x d i
theorem du_lf_in (x : Int32) (d : Nat) : ∀ i, du_lf x d i = 0 ∨ ∃ j, j < d ∧ du_cd x j = 3
  | 0 => Or.inl rfl
  | i + 1 => by
    by_cases h : i < d ∧ du_cd x i = 3
    · exact Or.inr ⟨i, h⟩
    · have e : du_lf x d (i + 1) = du_lf x d i := if_neg h
      rw [e]
      exact du_lf_in x d i
def du_top (x : Int32) (d : Nat) : Int32 := if 0 < d then du_cd x (d - 1) else 0
section
variable {post : Int32 → St1 → Prop} {L : Nat} {xs : Nat → Int32} {J : du_JT} {ln rd gd op nw lv : Int32} {a1 a2 a3 a4 a5 a6 a7 a8 a9 a10 a11 : Nat → Int32}
theorem du_add {n k w : Nat} (hn : n < 40) (hk : k ≤ 9) (hw : w ≤ 5)
    (H : ∀ r, post r (nI (n + 1), 0, gd, op, nw, lv, upd a1 n (nI k), upd a2 n (du_ww k w), a3, a4, a5, a6, a7, a8, a9, a10, a11)) :
    wpX_add post (nI n, rd, gd, op, nw, lv, a1, a2, a3, a4, a5, a6, a7, a8, a9, a10, a11) (nI k) (nI w) := by
  have cn : (nI n).toNatClampNeg = n := nI_clamp (by omega)
  have i40 : vp_in (nI n) 40 := pk_in n 40 hn
  unfold wpX_add
  dsimp only
  rw [cn]
  refine br_f (nI_pos (by omega)) (br_t (nI_le (b := 9) hk (by decide)) (du_badv hk hw (br_t rfl (br_t (nI_lt (b := 40) hn (by decide)) ⟨i40, nm_e ?_⟩))))
  refine pk_lt 1 k (fun h => ?_) (fun h => ?_)
  · unfold wX_add_63
    rw [cn]
    have e : du_ww k w = 0 := if_pos h
    rw [e] at H
    exact ⟨i40, nm_e (nm_r (nI_1 n) (H _))⟩
  · unfold wX_add_63
    rw [cn]
    have e : du_ww k w = nI w := if_neg (by omega)
    rw [e] at H
    exact ⟨i40, nm_e (nm_r (nI_1 n) (H _))⟩
theorem du_433 {x3 x4 x5 x7 x9 : Int32} {n d k z : Nat} (hz : z ≤ 9) (hd : z = 3 ∨ z = 6 → 0 < d) (H : J (nI (n + 1)) (du_nx7 d x7 z) (nI (du_nd d z)) x9 (nI (k + 1)) ln rd gd op nw lv a1 a2 a3 a4 a5 a6 a7 a8 a9 a10 a11) :
    wL_program_433 post L xs J x3 x4 x5 (nI n) x7 (nI d) (nI k) (nI z) x9 ln rd gd op nw lv a1 a2 a3 a4 a5 a6 a7 a8 a9 a10 a11 := by
  rcases du_n9 hz with rfl | rfl | rfl | rfl | rfl | rfl | rfl | rfl | rfl | rfl
  · exact nm_r (nI_1 n) (br_f (by decide) (br_f (by decide) (br_f (by decide) (br_f (by decide) (br_f (by decide) (nm_r (nI_1 k) H))))))
  · exact nm_r (nI_1 n) (br_f (by decide) (br_f (by decide) (br_f (by decide) (br_f (by decide) (br_f (by decide) (nm_r (nI_1 k) H))))))
  · exact nm_r (nI_1 n) (br_t rfl (br_t rfl (nm_r (du_pue x7 d 1) (nm_r (nI_1 d) (nm_r (nI_1 k) H)))))
  · exact nm_r (nI_1 n) (br_f (by decide) (br_f (by decide) (br_f (by decide) (br_t rfl (nm_r (du_puf (c := 2) x7 (hd (Or.inl rfl))) (nm_r (nI_1 k) H))))))
  · exact nm_r (nI_1 n) (br_f (by decide) (br_t rfl (br_f (by decide) (nm_r (du_pue x7 d 3) (nm_r (nI_1 d) (nm_r (nI_1 k) H))))))
  · exact nm_r (nI_1 n) (br_f (by decide) (br_f (by decide) (br_t rfl (br_f (by decide) (nm_r (du_pue x7 d 3) (nm_r (nI_1 d) (nm_r (nI_1 k) H)))))))
  · exact nm_r (nI_1 n) (br_f (by decide) (br_f (by decide) (br_f (by decide) (br_f (by decide) (br_t rfl (nm_r (sb_m1 (hd (Or.inr rfl))) (nm_r (nI_1 k) H)))))))
  · exact nm_r (nI_1 n) (br_f (by decide) (br_f (by decide) (br_f (by decide) (br_f (by decide) (br_f (by decide) (nm_r (nI_1 k) H))))))
  · exact nm_r (nI_1 n) (br_f (by decide) (br_f (by decide) (br_f (by decide) (br_f (by decide) (br_f (by decide) (nm_r (nI_1 k) H))))))
  · exact nm_r (nI_1 n) (br_f (by decide) (br_f (by decide) (br_f (by decide) (br_f (by decide) (br_f (by decide) (nm_r (nI_1 k) H))))))
theorem du_383 {x7 x9 : Int32} {w n d k z v : Nat} (hw : w < 40) (hn : n < 40) (hz : z ≤ 9) (hv : v ≤ 5) (hd : z = 3 ∨ z = 6 → 0 < d)
    (H : J (nI (n + 1)) (du_nx7 d x7 z) (nI (du_nd d z)) (if n = w then nI (z + 16 * v) else x9) (nI (k + 1)) (nI (n + 1)) 0 gd op nw lv (upd a1 n (nI z)) (upd a2 n (du_ww z v)) a3 a4 a5 a6 a7 a8 a9 a10 a11) :
    wL_program_383 post L xs J 40 (nI w) 0 (nI n) x7 (nI d) x9 (nI k) (nI v) (nI z) (nI n) rd gd op nw lv a1 a2 a3 a4 a5 a6 a7 a8 a9 a10 a11 := by
  refine pk_le 10 z (fun h => absurd h (by omega)) (fun _ => br_t rfl ?_)
  unfold wL_program_409
  refine du_add hn hz hv (fun r => ?_)
  refine pk_eq n w (fun e => ?_) (fun e => ?_)
  · rw [if_pos e] at H
    have e16 : nI z + 16 * nI v = nI (z + 16 * v) := by
      have e1 : 16 * nI v = nI (16 * v) := pk_mul 16 v
      rw [e1, nI_add]
    rw [e16]
    exact du_433 hz hd H
  · rw [if_neg e] at H
    exact du_433 hz hd H
theorem du_383x {x3 x4 x5 x6 x7 x8 x9 x15 : Int32} {k : Nat} (H : J x6 x7 x8 x9 (nI (k + 1)) ln rd gd op nw lv a1 a2 a3 a4 a5 a6 a7 a8 a9 a10 a11) : wL_program_383 post L xs J x3 x4 x5 x6 x7 x8 x9 (nI k) x15 (nI 10) ln rd gd op nw lv a1 a2 a3 a4 a5 a6 a7 a8 a9 a10 a11 :=
  br_t (by decide) (nm_r (nI_1 k) H)
end
theorem du_topc {x7 : Int32} {n d : Nat} (h : du_top x7 d = 1) (h2 : n + d + 1 ≤ 40) : 0 < d ∧ du_cd x7 (d - 1) = 1 ∧ n + d + 1 ≤ 40 := by
  by_cases z : 0 < d
  · have e : du_top x7 d = du_cd x7 (d - 1) := if_pos z
    exact ⟨z, e.symm.trans h, h2⟩
  · have e : du_top x7 d = 0 := if_neg z
    rw [e] at h
    exact absurd h (by decide)
theorem du_256 {n d z0 : Nat} {x7 : Int32} (hz : z0 ≤ 9) (hn : n + d < 40) (hd : d ≤ 5) : ∃ z, du_al n d x7 z ∧ ∀ (post : Int32 → St1 → Prop) (L : Nat) (xs : Nat → Int32) (J : du_JT) (x4 x9 x10 x15 : Int32) (ln rd gd op nw lv : Int32) (a1 a2 a3 a4 a5 a6 a7 a8 a9 a10 a11 : Nat → Int32), wL_program_383 post L xs J 40 x4 0 (nI n) x7 (nI d) x9 x10 x15 (nI z) ln rd gd op nw lv a1 a2 a3 a4 a5 a6 a7 a8 a9 a10 a11 → wL_program_256 post L xs J 40 x4 0 (nI n) x7 (nI d) x9 x10 (du_top x7 d) (du_lf x7 d 6) x15 0 (nI z0) ln rd gd op nw lv a1 a2 a3 a4 a5 a6 a7 a8 a9 a10 a11 := by
  have a01 : ∀ z, z = 0 ∨ z = 1 ∨ z = 9 → du_al n d x7 z := fun z h => ⟨by omega, fun _ => Or.inr hn, fun _ => by omega, fun _ => by omega, fun _ => by omega, fun _ => by omega⟩
  have lf := du_lf_in x7 d 6
  have s2 : nI n + nI d + 2 = nI (n + d + 2) := du_s2 n d 2
  have s1 : nI n + nI d + 1 = nI (n + d + 1) := du_s2 n d 1
  rcases du_n9 hz with rfl | rfl | rfl | rfl | rfl | rfl | rfl | rfl | rfl | rfl
  · exact ⟨0, a01 0 (by decide), fun post L xs J x4 x9 x10 x15 ln rd gd op nw lv a1 a2 a3 a4 a5 a6 a7 a8 a9 a10 a11 h => br_t rfl (br_f (by decide) (br_f (by decide) (br_f (by decide) (br_f (by decide) (br_f (by decide) (br_f (by decide) (br_f (by decide) h)))))))⟩
  · exact ⟨1, a01 1 (by decide), fun post L xs J x4 x9 x10 x15 ln rd gd op nw lv a1 a2 a3 a4 a5 a6 a7 a8 a9 a10 a11 h => br_t rfl (br_f (by decide) (br_f (by decide) (br_f (by decide) (br_f (by decide) (br_f (by decide) (br_f (by decide) (br_f (by decide) h)))))))⟩
  · by_cases c : d ≤ 4 ∧ n + d + 2 ≤ 40
    · exact ⟨2, ⟨by omega, fun _ => Or.inr hn, fun _ => c, fun y => absurd y (by decide), fun y => absurd y (by decide), fun y => absurd y (by decide)⟩, fun post L xs J x4 x9 x10 x15 ln rd gd op nw lv a1 a2 a3 a4 a5 a6 a7 a8 a9 a10 a11 h => br_t rfl (br_t rfl (pk_lt 4 d (fun y => absurd y (by omega)) (fun _ => pk_le (n + d + 2) 40 (fun _ => (br_f (by decide) (br_f (by decide) (br_f (by decide) (br_f (by decide) h))))) (fun y => absurd y (by omega)) (hx := s2))))⟩
    · exact ⟨1, a01 1 (by decide), fun post L xs J x4 x9 x10 x15 ln rd gd op nw lv a1 a2 a3 a4 a5 a6 a7 a8 a9 a10 a11 h => br_t rfl (br_t rfl (pk_lt 4 d (fun _ => (br_f (by decide) (br_f (by decide) (br_f (by decide) (br_f (by decide) h))))) (fun _ => pk_le (n + d + 2) 40 (fun y => absurd y (by omega)) (fun _ => (br_f (by decide) (br_f (by decide) (br_f (by decide) (br_f (by decide) h))))) (hx := s2))))⟩
  · by_cases c : 0 < d ∧ du_cd x7 (d - 1) = 1 ∧ n + d + 1 ≤ 40
    · have et : du_top x7 d = 1 := (if_pos c.1).trans c.2.1
      exact ⟨3, ⟨by omega, fun _ => Or.inr hn, fun y => absurd y (by decide), fun _ => ⟨c.1, c.2.1⟩, fun y => absurd y (by decide), fun y => absurd y (by decide)⟩, fun post L xs J x4 x9 x10 x15 ln rd gd op nw lv a1 a2 a3 a4 a5 a6 a7 a8 a9 a10 a11 h => br_t rfl (br_f (by decide) (br_f (by decide) (br_f (by decide) (br_t rfl (br_t et (pk_le (n + d + 1) 40 (fun _ => (br_f (by decide) (br_f (by decide) (br_f (by decide) h)))) (fun y => absurd y (by omega)) (hx := s1)))))))⟩
    · exact ⟨1, a01 1 (by decide), fun post L xs J x4 x9 x10 x15 ln rd gd op nw lv a1 a2 a3 a4 a5 a6 a7 a8 a9 a10 a11 h => br_t rfl (br_f (by decide) (br_f (by decide) (br_f (by decide) (br_t rfl (br_c (fun y => pk_le (n + d + 1) 40 (fun x => absurd (du_topc y x) c) (fun _ => (br_f (by decide) (br_f (by decide) (br_f (by decide) h)))) (hx := s1)) (fun _ => (br_f (by decide) (br_f (by decide) (br_f (by decide) h)))))))))⟩
  · by_cases c : d ≤ 4 ∧ n + d + 2 ≤ 40
    · exact ⟨4, ⟨by omega, fun _ => Or.inr hn, fun _ => c, fun y => absurd y (by decide), fun y => absurd y (by decide), fun y => absurd y (by decide)⟩, fun post L xs J x4 x9 x10 x15 ln rd gd op nw lv a1 a2 a3 a4 a5 a6 a7 a8 a9 a10 a11 h => br_t rfl (br_f (by decide) (br_t rfl (pk_lt 4 d (fun y => absurd y (by omega)) (fun _ => pk_le (n + d + 2) 40 (fun _ => (br_f (by decide) (br_f (by decide) (br_f (by decide) (br_f (by decide) h))))) (fun y => absurd y (by omega)) (hx := s2)))))⟩
    · exact ⟨1, a01 1 (by decide), fun post L xs J x4 x9 x10 x15 ln rd gd op nw lv a1 a2 a3 a4 a5 a6 a7 a8 a9 a10 a11 h => br_t rfl (br_f (by decide) (br_t rfl (pk_lt 4 d (fun _ => (br_f (by decide) (br_f (by decide) (br_f (by decide) (br_f (by decide) h))))) (fun _ => pk_le (n + d + 2) 40 (fun y => absurd y (by omega)) (fun _ => (br_f (by decide) (br_f (by decide) (br_f (by decide) (br_f (by decide) h))))) (hx := s2)))))⟩
  · by_cases c : d ≤ 4 ∧ n + d + 2 ≤ 40
    · exact ⟨5, ⟨by omega, fun _ => Or.inr hn, fun _ => c, fun y => absurd y (by decide), fun y => absurd y (by decide), fun y => absurd y (by decide)⟩, fun post L xs J x4 x9 x10 x15 ln rd gd op nw lv a1 a2 a3 a4 a5 a6 a7 a8 a9 a10 a11 h => br_t rfl (br_f (by decide) (br_f (by decide) (br_t rfl (pk_lt 4 d (fun y => absurd y (by omega)) (fun _ => pk_le (n + d + 2) 40 (fun _ => (br_f (by decide) (br_f (by decide) (br_f (by decide) (br_f (by decide) h))))) (fun y => absurd y (by omega)) (hx := s2))))))⟩
    · exact ⟨1, a01 1 (by decide), fun post L xs J x4 x9 x10 x15 ln rd gd op nw lv a1 a2 a3 a4 a5 a6 a7 a8 a9 a10 a11 h => br_t rfl (br_f (by decide) (br_f (by decide) (br_t rfl (pk_lt 4 d (fun _ => (br_f (by decide) (br_f (by decide) (br_f (by decide) (br_f (by decide) h))))) (fun _ => pk_le (n + d + 2) 40 (fun y => absurd y (by omega)) (fun _ => (br_f (by decide) (br_f (by decide) (br_f (by decide) (br_f (by decide) h))))) (hx := s2))))))⟩
  · by_cases c : 0 < d
    · exact ⟨6, ⟨by omega, fun _ => Or.inl rfl, fun y => absurd y (by decide), fun y => absurd y (by decide), fun _ => c, fun y => absurd y (by decide)⟩, fun post L xs J x4 x9 x10 x15 ln rd gd op nw lv a1 a2 a3 a4 a5 a6 a7 a8 a9 a10 a11 h => br_t rfl (br_f (by decide) (br_f (by decide) (br_f (by decide) (br_f (by decide) (br_f (by decide) (br_f (by decide) (br_t rfl (br_f (nI_ne0 c (by omega)) h))))))))⟩
    · have d0 : nI d = 0 := by rw [show d = 0 by omega]; rfl
      exact ⟨10, ⟨by omega, fun y => absurd y (by decide), fun y => absurd y (by decide), fun y => absurd y (by decide), fun y => absurd y (by decide), fun y => absurd y (by decide)⟩, fun post L xs J x4 x9 x10 x15 ln rd gd op nw lv a1 a2 a3 a4 a5 a6 a7 a8 a9 a10 a11 h => br_t rfl (br_f (by decide) (br_f (by decide) (br_f (by decide) (br_f (by decide) (br_f (by decide) (br_f (by decide) (br_t rfl (br_t d0 h))))))))⟩
  · by_cases c : du_lf x7 d 6 = 0
    · exact ⟨0, a01 0 (by decide), fun post L xs J x4 x9 x10 x15 ln rd gd op nw lv a1 a2 a3 a4 a5 a6 a7 a8 a9 a10 a11 h => br_t rfl (br_f (by decide) (br_f (by decide) (br_f (by decide) (br_f (by decide) (br_t rfl (br_t c (br_f (by decide) h)))))))⟩
    · exact ⟨7, ⟨by omega, fun _ => Or.inr hn, fun y => absurd y (by decide), fun y => absurd y (by decide), fun y => absurd y (by decide), fun _ => lf.resolve_left c⟩, fun post L xs J x4 x9 x10 x15 ln rd gd op nw lv a1 a2 a3 a4 a5 a6 a7 a8 a9 a10 a11 h => br_t rfl (br_f (by decide) (br_f (by decide) (br_f (by decide) (br_f (by decide) (br_t rfl (br_f c (br_f (by decide) h)))))))⟩
  · by_cases c : du_lf x7 d 6 = 0
    · exact ⟨0, a01 0 (by decide), fun post L xs J x4 x9 x10 x15 ln rd gd op nw lv a1 a2 a3 a4 a5 a6 a7 a8 a9 a10 a11 h => br_t rfl (br_f (by decide) (br_f (by decide) (br_f (by decide) (br_f (by decide) (br_f (by decide) (br_t rfl (br_t c (br_f (by decide) h))))))))⟩
    · exact ⟨8, ⟨by omega, fun _ => Or.inr hn, fun y => absurd y (by decide), fun y => absurd y (by decide), fun y => absurd y (by decide), fun _ => lf.resolve_left c⟩, fun post L xs J x4 x9 x10 x15 ln rd gd op nw lv a1 a2 a3 a4 a5 a6 a7 a8 a9 a10 a11 h => br_t rfl (br_f (by decide) (br_f (by decide) (br_f (by decide) (br_f (by decide) (br_f (by decide) (br_t rfl (br_f c (br_f (by decide) h))))))))⟩
  · exact ⟨9, a01 9 (by decide), fun post L xs J x4 x9 x10 x15 ln rd gd op nw lv a1 a2 a3 a4 a5 a6 a7 a8 a9 a10 a11 h => br_t rfl (br_f (by decide) (br_f (by decide) (br_f (by decide) (br_f (by decide) (br_f (by decide) (br_f (by decide) (br_f (by decide) h)))))))⟩
theorem du_256r {n d : Nat} {x7 : Int32} (hd : d ≤ 5) : ∃ z, du_al n d x7 z ∧ (0 < d → z = 6) ∧ (d = 0 → z = 10) ∧ ∀ (post : Int32 → St1 → Prop) (L : Nat) (xs : Nat → Int32) (J : du_JT) (x4 x9 x10 x14 x15 : Int32) (ln rd gd op nw lv : Int32) (a1 a2 a3 a4 a5 a6 a7 a8 a9 a10 a11 : Nat → Int32), wL_program_383 post L xs J 40 x4 0 (nI n) x7 (nI d) x9 x10 x15 (nI z) ln rd gd op nw lv a1 a2 a3 a4 a5 a6 a7 a8 a9 a10 a11 → wL_program_152 post L xs J 40 x4 0 (nI n) x7 (nI d) x9 x10 (du_top x7 d) (du_lf x7 d 6) x14 x15 1 ln rd gd op nw lv a1 a2 a3 a4 a5 a6 a7 a8 a9 a10 a11 := by
  by_cases c : 0 < d
  · exact ⟨6, ⟨by omega, fun _ => Or.inl rfl, fun y => absurd y (by decide), fun y => absurd y (by decide), fun _ => c, fun y => absurd y (by decide)⟩, fun _ => rfl, fun y => absurd y (by omega), fun post L xs J x4 x9 x10 x14 x15 ln rd gd op nw lv a1 a2 a3 a4 a5 a6 a7 a8 a9 a10 a11 h => br_f (by decide) (br_f (nI_nle c (by omega)) (br_f (by decide) (br_f (by decide) (br_f (by decide) (br_f (by decide) (br_t rfl (br_f (nI_ne0 c (by omega)) h)))))))⟩
  · have d0 : nI d ≤ 0 := by rw [show d = 0 by omega]; decide
    exact ⟨10, ⟨by omega, fun y => absurd y (by decide), fun y => absurd y (by decide), fun y => absurd y (by decide), fun y => absurd y (by decide), fun y => absurd y (by decide)⟩, fun y => absurd y c, fun _ => rfl, fun post L xs J x4 x9 x10 x14 x15 ln rd gd op nw lv a1 a2 a3 a4 a5 a6 a7 a8 a9 a10 a11 h => br_f (by decide) (br_t d0 (br_f (by decide) (br_f (by decide) (br_f (by decide) (br_f (by decide) (br_f (by decide) h))))))⟩
end
section
theorem du_n16 {j : Nat} (hj : j < 16) : j < 4 ∨ (4 ≤ j ∧ j < 8) ∨ j = 8 ∨ j = 9 ∨ j = 10 ∨ j = 11 ∨ j = 12 ∨ j = 13 ∨ j = 14 ∨ j = 15 := by omega
theorem du_152m {n d j : Nat} {x7 : Int32} (hj : j < 16) : ∃ z, z ≤ 9 ∧ ∀ (post : Int32 → St1 → Prop) (L : Nat) (xs : Nat → Int32) (J : du_JT) (x4 x9 x10 x15 : Int32) (ln rd gd op nw lv : Int32) (a1 a2 a3 a4 a5 a6 a7 a8 a9 a10 a11 : Nat → Int32), wL_program_256 post L xs J 40 x4 0 (nI n) x7 (nI d) x9 x10 (du_top x7 d) (du_lf x7 d 6) x15 0 (nI z) ln rd gd op nw lv a1 a2 a3 a4 a5 a6 a7 a8 a9 a10 a11 → wL_program_152 post L xs J 40 x4 0 (nI n) x7 (nI d) x9 x10 (du_top x7 d) (du_lf x7 d 6) (nI j) x15 0 ln rd gd op nw lv a1 a2 a3 a4 a5 a6 a7 a8 a9 a10 a11 := by
  rcases du_n16 hj with c | c | rfl | rfl | rfl | rfl | rfl | rfl | rfl | rfl
  · exact ⟨0, by omega, fun post L xs J x4 x9 x10 x15 ln rd gd op nw lv a1 a2 a3 a4 a5 a6 a7 a8 a9 a10 a11 h => br_t rfl (pk_le 4 j (fun y => absurd y (by omega)) (fun _ => h))⟩
  · exact ⟨1, by omega, fun post L xs J x4 x9 x10 x15 ln rd gd op nw lv a1 a2 a3 a4 a5 a6 a7 a8 a9 a10 a11 h => br_t rfl (pk_le 4 j (fun _ => pk_le 8 j (fun y => absurd y (by omega)) (fun _ => h)) (fun y => absurd y (by omega)))⟩
  · exact ⟨2, by omega, fun post L xs J x4 x9 x10 x15 ln rd gd op nw lv a1 a2 a3 a4 a5 a6 a7 a8 a9 a10 a11 h => br_t rfl (br_t (by decide) (br_t (by decide) (br_t rfl h)))⟩
  · exact ⟨4, by omega, fun post L xs J x4 x9 x10 x15 ln rd gd op nw lv a1 a2 a3 a4 a5 a6 a7 a8 a9 a10 a11 h => br_t rfl (br_t (by decide) (br_t (by decide) (br_f (by decide) (br_t rfl h))))⟩
  · exact ⟨5, by omega, fun post L xs J x4 x9 x10 x15 ln rd gd op nw lv a1 a2 a3 a4 a5 a6 a7 a8 a9 a10 a11 h => br_t rfl (br_t (by decide) (br_t (by decide) (br_f (by decide) (br_f (by decide) (br_t rfl h)))))⟩
  · exact ⟨3, by omega, fun post L xs J x4 x9 x10 x15 ln rd gd op nw lv a1 a2 a3 a4 a5 a6 a7 a8 a9 a10 a11 h => br_t rfl (br_t (by decide) (br_t (by decide) (br_f (by decide) (br_f (by decide) (br_f (by decide) (br_t rfl h))))))⟩
  · exact ⟨6, by omega, fun post L xs J x4 x9 x10 x15 ln rd gd op nw lv a1 a2 a3 a4 a5 a6 a7 a8 a9 a10 a11 h => br_t rfl (br_t (by decide) (br_t (by decide) (br_f (by decide) (br_f (by decide) (br_f (by decide) (br_f (by decide) (br_t rfl h)))))))⟩
  · exact ⟨7, by omega, fun post L xs J x4 x9 x10 x15 ln rd gd op nw lv a1 a2 a3 a4 a5 a6 a7 a8 a9 a10 a11 h => br_t rfl (br_t (by decide) (br_t (by decide) (br_f (by decide) (br_f (by decide) (br_f (by decide) (br_f (by decide) (br_f (by decide) h)))))))⟩
  · exact ⟨8, by omega, fun post L xs J x4 x9 x10 x15 ln rd gd op nw lv a1 a2 a3 a4 a5 a6 a7 a8 a9 a10 a11 h => br_t rfl (br_t (by decide) (br_t (by decide) (br_f (by decide) (br_f (by decide) (br_f (by decide) (br_f (by decide) (br_f (by decide) h)))))))⟩
  · exact ⟨9, by omega, fun post L xs J x4 x9 x10 x15 ln rd gd op nw lv a1 a2 a3 a4 a5 a6 a7 a8 a9 a10 a11 h => br_t rfl (br_t (by decide) (br_t (by decide) (br_f (by decide) (br_f (by decide) (br_f (by decide) (br_f (by decide) (br_f (by decide) h)))))))⟩
theorem du_152 {n d j : Nat} {x7 : Int32} (hj : j < 16) (hn : n + d < 40) (hd : d ≤ 5) : ∃ z, du_al n d x7 z ∧ ∀ (post : Int32 → St1 → Prop) (L : Nat) (xs : Nat → Int32) (J : du_JT) (x4 x9 x10 x15 : Int32) (ln rd gd op nw lv : Int32) (a1 a2 a3 a4 a5 a6 a7 a8 a9 a10 a11 : Nat → Int32), wL_program_383 post L xs J 40 x4 0 (nI n) x7 (nI d) x9 x10 x15 (nI z) ln rd gd op nw lv a1 a2 a3 a4 a5 a6 a7 a8 a9 a10 a11 → wL_program_152 post L xs J 40 x4 0 (nI n) x7 (nI d) x9 x10 (du_top x7 d) (du_lf x7 d 6) (nI j) x15 0 ln rd gd op nw lv a1 a2 a3 a4 a5 a6 a7 a8 a9 a10 a11 := by
  obtain ⟨z0, h0, g0⟩ := du_152m (n := n) (d := d) (x7 := x7) hj
  obtain ⟨z, h1, g1⟩ := du_256 (x7 := x7) h0 hn hd
  exact ⟨z, h1, fun post L xs J x4 x9 x10 x15 ln rd gd op nw lv a1 a2 a3 a4 a5 a6 a7 a8 a9 a10 a11 h => g0 _ _ _ _ _ _ _ _ _ _ _ _ _ _ _ _ _ _ _ _ _ _ _ _ _ (g1 _ _ _ _ _ _ _ _ _ _ _ _ _ _ _ _ _ _ _ _ _ _ _ _ _ h)⟩
theorem du_71x {n d k L : Nat} {x7 : Int32} (x11 : Int32) (hL : L ≤ 260) (hk : k < L + 12) (hn : n + d ≤ 40) (hd : d ≤ 5) :
    ∃ z v, v ≤ 5 ∧ du_al n d x7 z ∧ (L ≤ k → (0 < d → z = 6) ∧ (d = 0 → z = 10)) ∧ ∀ (post : Int32 → St1 → Prop) (xs : Nat → Int32) (J : du_JT) (x4 x9 : Int32) (ln rd gd op nw lv : Int32) (a1 a2 a3 a4 a5 a6 a7 a8 a9 a10 a11 : Nat → Int32) (m : Nat), wL_program_383 post L xs J 40 x4 0 (nI n) x7 (nI d) x9 (nI k) (nI v) (nI z) ln rd gd op nw lv a1 a2 a3 a4 a5 a6 a7 a8 a9 a10 a11 →
      wL_program_71 post L xs J 40 x4 0 (nI n) x7 (nI d) x9 (nI k) x11 (du_top x7 d) ln rd gd op nw lv a1 a2 a3 a4 a5 a6 a7 a8 a9 a10 a11 (m + 1) (du_lf x7 d 6) (nI 6) := by
  obtain ⟨j, hj, ej⟩ := pk_andE x11 (m := 15) 4 (by decide)
  obtain ⟨q, hq, eq⟩ := pk_andE (x11 >>> ((4 : Int32) &&& 31)) (m := 7) 3 (by decide)
  have hj : j < 16 := hj
  have hq : q < 8 := hq
  have ev : ((x11 >>> ((4 : Int32) &&& 31)) &&& 7) - ((x11 >>> ((4 : Int32) &&& 31)) &&& 7) / 6 * 6 = nI (q % 6) := by
    rw [eq]
    exact pk_rem (d := 6) (by omega) (by decide) (by decide)
  have v5 : q % 6 ≤ 5 := by omega
  obtain ⟨zr, r1, r2, r3, r4⟩ := du_256r (n := n) (x7 := x7) hd
  by_cases c : L ≤ k
  · exact ⟨zr, q % 6, v5, r1, fun _ => ⟨r2, r3⟩, fun post xs J x4 x9 ln rd gd op nw lv a1 a2 a3 a4 a5 a6 a7 a8 a9 a10 a11 m h => pk_le 6 6 (fun _ => nm_r ej ⟨by decide, nm_r ev (pk_le L k (fun _ => r4 _ _ _ _ _ _ _ (nI j) _ _ _ _ _ _ _ _ _ _ _ _ _ _ _ _ _ _ h) (fun y => absurd y (by omega)))⟩) (fun y => absurd y (by omega))⟩
  · by_cases c2 : n + d < 40
    · obtain ⟨z, h1, g1⟩ := du_152 (x7 := x7) hj c2 hd
      exact ⟨z, q % 6, v5, h1, fun y => absurd y c, fun post xs J x4 x9 ln rd gd op nw lv a1 a2 a3 a4 a5 a6 a7 a8 a9 a10 a11 m h => pk_le 6 6 (fun _ => nm_r ej ⟨by decide, nm_r ev (pk_le L k (fun y => absurd y c) (fun _ => pk_lt (n + d) 40 (fun _ => g1 _ _ _ _ _ _ _ _ _ _ _ _ _ _ _ _ _ _ _ _ _ _ _ _ _ h) (fun y => absurd y (by omega)) (hx := nI_add n d)))⟩) (fun y => absurd y (by omega))⟩
    · exact ⟨zr, q % 6, v5, r1, fun _ => ⟨r2, r3⟩, fun post xs J x4 x9 ln rd gd op nw lv a1 a2 a3 a4 a5 a6 a7 a8 a9 a10 a11 m h => pk_le 6 6 (fun _ => nm_r ej ⟨by decide, nm_r ev (pk_le L k (fun y => absurd y c) (fun _ => pk_lt (n + d) 40 (fun y => absurd y c2) (fun _ => r4 _ _ _ _ _ _ _ (nI j) _ _ _ _ _ _ _ _ _ _ _ _ _ _ _ _ _ _ h) (hx := nI_add n d)))⟩) (fun y => absurd y (by omega))⟩
section
variable {post : Int32 → St1 → Prop} {L : Nat} {xs : Nat → Int32} {J : du_JT} {ln rd gd op nw lv : Int32} {a1 a2 a3 a4 a5 a6 a7 a8 a9 a10 a11 : Nat → Int32}
theorem du_71 {x3 x4 x5 x6 x7 x9 x10 x11 x12 : Int32} {d : Nat} (hd : d ≤ 5) (H : ∀ m, wL_program_71 post L xs J x3 x4 x5 x6 x7 (nI d) x9 x10 x11 x12 ln rd gd op nw lv a1 a2 a3 a4 a5 a6 a7 a8 a9 a10 a11 (m + 1) (du_lf x7 d 6) (nI 6)) :
    ∃ m, wL_program_71 post L xs J x3 x4 x5 x6 x7 (nI d) x9 x10 x11 x12 ln rd gd op nw lv a1 a2 a3 a4 a5 a6 a7 a8 a9 a10 a11 m 0 0 :=
  pk_loop (σ := Unit) (fun m i _ => wL_program_71 post L xs J x3 x4 x5 x6 x7 (nI d) x9 x10 x11 x12 ln rd gd op nw lv a1 a2 a3 a4 a5 a6 a7 a8 a9 a10 a11 m (du_lf x7 d i) (nI i)) (fun _ _ => True) 6 0 () (by omega) trivial
    (fun m _ _ => H m)
    (fun m i _ hi _ hw => by
      have g := hw () trivial
      have e2 : 2 * nI i = nI (2 * i) := pk_mul 2 i
      by_cases c : i < d ∧ du_cd x7 i = 3
      · have e : du_lf x7 d (i + 1) = 1 := if_pos c
        rw [e] at g
        exact pk_le 6 i (fun y => absurd y (by omega)) (fun _ => pk_le d i (fun y => absurd y (by omega)) (fun _ => br_t (by rw [e2]; exact c.2) (nm_r (nI_1 i) g)))
      · have e : du_lf x7 d (i + 1) = du_lf x7 d i := if_neg c
        rw [e] at g
        exact pk_le 6 i (fun y => absurd y (by omega)) (fun _ => pk_le d i (fun _ => nm_r (nI_1 i) g) (fun y => br_f (by rw [e2]; exact fun x => c ⟨y, x⟩) (nm_r (nI_1 i) g))))
theorem du_41 {x3 x4 x5 x6 x7 x9 x10 x11 : Int32} {d : Nat} (hd : d ≤ 5) (H : ∀ m, wL_program_71 post L xs J x3 x4 x5 x6 x7 (nI d) x9 x10 x11 (du_top x7 d) ln rd gd op nw lv a1 a2 a3 a4 a5 a6 a7 a8 a9 a10 a11 (m + 1) (du_lf x7 d 6) (nI 6)) :
    wL_program_41 post L xs J x3 x4 x5 x6 x7 (nI d) x9 x10 x11 ln rd gd op nw lv a1 a2 a3 a4 a5 a6 a7 a8 a9 a10 a11 := by
  refine pk_le d 0 (fun y => ?_) (fun y => ?_)
  · have e : du_top x7 d = 0 := if_neg (by omega)
    rw [e] at H
    exact du_71 hd H
  · have e : (x7 >>> (((2 * nI d) - 2) &&& 31)) &&& 3 = du_top x7 d := by
      rw [du_2d y]
      exact (if_pos y).symm
    exact nm_r e (du_71 hd H)
end
theorem du_step {xs : Nat → Int32} {L w n d k : Nat} {x7 x9 : Int32} {a1 a2 : Nat → Int32} (hL : L ≤ 260) (hw : w < 40) (hk : k < L + 12) (hI : du_I w n d x7 x9 a1) (hd : d ≤ 5 - (k - L)) :
    ∃ (n' d' : Nat) (y7 y9 : Int32) (b1 b2 : Nat → Int32), du_I w n' d' y7 y9 b1 ∧ d' ≤ 5 - (k + 1 - L) ∧
      ∀ (post : Int32 → St1 → Prop) (m : Nat) (gd op nw lv : Int32) (a3 a4 a5 a6 a7 a8 a9 a10 a11 : Nat → Int32), wL_program_15 post L xs 40 (nI w) 0 m (nI n') y7 (nI d') y9 (nI (k + 1)) (nI n') 0 gd op nw lv b1 b2 a3 a4 a5 a6 a7 a8 a9 a10 a11 →
        wL_program_15 post L xs 40 (nI w) 0 (m + 1) (nI n) x7 (nI d) x9 (nI k) (nI n) 0 gd op nw lv a1 a2 a3 a4 a5 a6 a7 a8 a9 a10 a11 := by
  have h1 := hI.1
  have h2 := hI.2.1
  have e12 : nI L + 12 = nI (L + 12) := nI_add L 12
  have ck : (nI k).toNatClampNeg = k := nI_clamp (by omega)
  have fin : ∀ z v, v ≤ 5 → du_al n d x7 z → (L ≤ k → (0 < d → z = 6) ∧ (d = 0 → z = 10)) →
      (∀ (post : Int32 → St1 → Prop) (m : Nat) (gd op nw lv : Int32) (a3 a4 a5 a6 a7 a8 a9 a10 a11 : Nat → Int32), wL_program_383 post L xs (wL_program_15 post L xs 40 (nI w) 0 m) 40 (nI w) 0 (nI n) x7 (nI d) x9 (nI k) (nI v) (nI z) (nI n) 0 gd op nw lv a1 a2 a3 a4 a5 a6 a7 a8 a9 a10 a11 →
        wL_program_15 post L xs 40 (nI w) 0 (m + 1) (nI n) x7 (nI d) x9 (nI k) (nI n) 0 gd op nw lv a1 a2 a3 a4 a5 a6 a7 a8 a9 a10 a11) →
      ∃ (n' d' : Nat) (y7 y9 : Int32) (b1 b2 : Nat → Int32), du_I w n' d' y7 y9 b1 ∧ d' ≤ 5 - (k + 1 - L) ∧
      ∀ (post : Int32 → St1 → Prop) (m : Nat) (gd op nw lv : Int32) (a3 a4 a5 a6 a7 a8 a9 a10 a11 : Nat → Int32), wL_program_15 post L xs 40 (nI w) 0 m (nI n') y7 (nI d') y9 (nI (k + 1)) (nI n') 0 gd op nw lv b1 b2 a3 a4 a5 a6 a7 a8 a9 a10 a11 →
        wL_program_15 post L xs 40 (nI w) 0 (m + 1) (nI n) x7 (nI d) x9 (nI k) (nI n) 0 gd op nw lv a1 a2 a3 a4 a5 a6 a7 a8 a9 a10 a11 := by
    intro z v hv hal hr run
    by_cases z10 : z = 10
    · refine ⟨n, d, x7, x9, a1, a2, hI, ?_, fun post m gd op nw lv a3 a4 a5 a6 a7 a8 a9 a10 a11 h => run _ _ _ _ _ _ _ _ _ _ _ _ _ _ _ ?_⟩
      · by_cases c : L ≤ k
        · have := (hr c).1
          omega
        · omega
      · rw [z10]
        exact du_383x h
    · have hz : z ≤ 9 := by have := hal.1; omega
      have hd0 : z = 3 ∨ z = 6 → 0 < d := by
        intro y
        rcases y with y | y
        · exact (hal.2.2.2.1 y).1
        · exact hal.2.2.2.2.1 y
      have hn : n < 40 := by
        rcases hal.2.1 hz with y | y
        · have := hd0 (Or.inr y)
          omega
        · omega
      have hI' := du_I_s hz hv hI hal
      refine ⟨n + 1, du_nd d z, du_nx7 d x7 z, _, _, upd a2 n (du_ww z v), hI', ?_, fun post m gd op nw lv a3 a4 a5 a6 a7 a8 a9 a10 a11 h => run _ _ _ _ _ _ _ _ _ _ _ _ _ _ _ (du_383 hw hn hz hv hd0 h)⟩
      by_cases c : L ≤ k
      · have r := hr c
        have z6 : z = 6 := by
          by_cases y : 0 < d
          · exact r.1 y
          · exact absurd (r.2 (by omega)) z10
        have e : du_nd d z = d - 1 := by rw [z6]; rfl
        rw [e]
        omega
      · have := hI'.2.1
        omega
  by_cases c : L ≤ k
  · obtain ⟨z, v, hv, hal, hr, run⟩ := du_71x (x7 := x7) 15 hL hk h1 h2
    exact fin z v hv hal hr (fun post m gd op nw lv a3 a4 a5 a6 a7 a8 a9 a10 a11 h => pk_le (L + 12) k (fun y => absurd y (by omega)) (fun _ => pk_le L k (fun _ => du_41 h2 (fun m' => run _ _ _ _ _ _ _ _ _ _ _ _ _ _ _ _ _ _ _ _ _ _ m' h)) (fun y => absurd y (by omega))) (hx := e12))
  · obtain ⟨z, v, hv, hal, hr, run⟩ := du_71x (x7 := x7) (xs k) hL hk h1 h2
    exact fin z v hv hal hr (fun post m gd op nw lv a3 a4 a5 a6 a7 a8 a9 a10 a11 h => pk_le (L + 12) k (fun y => absurd y (by omega)) (fun _ => pk_le L k (fun y => absurd y (by omega)) (fun _ => ⟨pk_in k L (by omega), by rw [ck]; exact du_41 h2 (fun m' => run _ _ _ _ _ _ _ _ _ _ _ _ _ _ _ _ _ _ _ _ _ _ m' h)⟩)) (hx := e12))
theorem du_run {xs : Nat → Int32} {L w : Nat} (hL : L ≤ 260) (hw : w < 40) : ∀ (j : Nat) {n d k : Nat} {x7 x9 : Int32} {a1 a2 : Nat → Int32}, k + j = L + 12 → du_I w n d x7 x9 a1 → d ≤ 5 - (k - L) →
    ∃ (n' : Nat) (y9 : Int32) (b1 b2 : Nat → Int32), n' ≤ 40 ∧ du_G b1 n' ∧ du_sn w n' y9 b1 ∧
      ∀ (post : Int32 → St1 → Prop) (gd op nw lv : Int32) (a3 a4 a5 a6 a7 a8 a9 a10 a11 : Nat → Int32), post (nI n' + 64 * y9) (nI n', 0, gd, op, nw, lv, b1, b2, a3, a4, a5, a6, a7, a8, a9, a10, a11) →
        ∃ m, wL_program_15 post L xs 40 (nI w) 0 m (nI n) x7 (nI d) x9 (nI k) (nI n) 0 gd op nw lv a1 a2 a3 a4 a5 a6 a7 a8 a9 a10 a11
  | 0, n, d, k, x7, x9, a1, a2, hk, hI, hd => by
    have d0 : d = 0 := by omega
    have ek : k = L + 12 := by omega
    have e12 : nI L + 12 = nI (L + 12) := nI_add L 12
    refine ⟨n, x9, a1, a2, by have := hI.1; omega, ⟨hI.2.2.2.1, hI.2.2.1.symm.trans d0⟩, hI.2.2.2.2.2, fun post gd op nw lv a3 a4 a5 a6 a7 a8 a9 a10 a11 h => ⟨0 + 1, pk_le (L + 12) k (fun _ => h) (fun y => absurd y (by omega)) (hx := e12)⟩⟩
  | j + 1, n, d, k, x7, x9, a1, a2, hk, hI, hd => by
    obtain ⟨n1, d1, y7, y9, b1, b2, hI1, hd1, run⟩ := du_step (xs := xs) (a2 := a2) hL hw (by omega) hI hd
    obtain ⟨n2, z9, c1, c2, g1, g2, g3, run2⟩ := du_run hL hw j (a2 := b2) (xs := xs) (by omega) hI1 hd1
    refine ⟨n2, z9, c1, c2, g1, g2, g3, fun post gd op nw lv a3 a4 a5 a6 a7 a8 a9 a10 a11 h => ?_⟩
    obtain ⟨m, hm⟩ := run2 post gd op nw lv a3 a4 a5 a6 a7 a8 a9 a10 a11 h
    exact ⟨m + 1, run _ _ _ _ _ _ _ _ _ _ _ _ _ _ _ hm⟩
theorem du_program {xs : Nat → Int32} {L w : Nat} (hL : L ≤ 260) (hw : w < 40) :
    ∃ (n' : Nat) (y9 : Int32) (b1 b2 : Nat → Int32), n' ≤ 40 ∧ du_G b1 n' ∧ du_sn w n' y9 b1 ∧
      ∀ (post : Int32 → St1 → Prop) (gd op nw lv : Int32) (a3 a4 a5 a6 a7 a8 a9 a10 a11 : Nat → Int32), post (nI n' + 64 * y9) (nI n', 0, gd, op, nw, lv, b1, b2, a3, a4, a5, a6, a7, a8, a9, a10, a11) →
        wpL_program post L xs (0, 0, gd, op, nw, lv, (fun _ => 0), (fun _ => 0), a3, a4, a5, a6, a7, a8, a9, a10, a11) 1 40 (nI w) 0 := by
  have hI : du_I w 0 0 0 0 (fun _ => 0) := ⟨by omega, by omega, rfl, fun p hp => absurd hp (Nat.not_lt_zero p), fun i hi => absurd hi (Nat.not_lt_zero i), fun y => absurd y (Nat.not_lt_zero w), fun _ => rfl⟩
  obtain ⟨n, y9, b1, b2, g1, g2, g3, run⟩ := du_run (xs := xs) hL hw (L + 11) (k := 1) (a2 := fun _ => 0) (by omega) hI (by omega)
  exact ⟨n, y9, b1, b2, g1, g2, g3, fun post gd op nw lv a3 a4 a5 a6 a7 a8 a9 a10 a11 h => run post gd op nw lv a3 a4 a5 a6 a7 a8 a9 a10 a11 h⟩
end
section
/-! the law's last loop -/
section
variable {post : Int32 → Prop} {L : Nat} {xs : Nat → Int32} {kc ks n : Nat} {a v : Nat → Int32}
theorem du_287 (hp : post 1) (hn : n ≤ 40) (hG : du_G a n) {t : St1} (hQ : du_Q n a v t) : ∃ m, wL_law_287 post L xs (nI n) kc ks m 0 t.1 t.2.1 t.2.2.1 t.2.2.2.1 t.2.2.2.2.1 t.2.2.2.2.2.1 t.2.2.2.2.2.2.1 t.2.2.2.2.2.2.2.1 t.2.2.2.2.2.2.2.2.1 t.2.2.2.2.2.2.2.2.2.1 t.2.2.2.2.2.2.2.2.2.2.1 t.2.2.2.2.2.2.2.2.2.2.2.1 t.2.2.2.2.2.2.2.2.2.2.2.2.1 t.2.2.2.2.2.2.2.2.2.2.2.2.2.1 t.2.2.2.2.2.2.2.2.2.2.2.2.2.2.1 t.2.2.2.2.2.2.2.2.2.2.2.2.2.2.2.1 t.2.2.2.2.2.2.2.2.2.2.2.2.2.2.2.2 := by
  refine pk_loop (σ := St1) (fun m i s => wL_law_287 post L xs (nI n) kc ks m (nI i) s.1 s.2.1 s.2.2.1 s.2.2.2.1 s.2.2.2.2.1 s.2.2.2.2.2.1 s.2.2.2.2.2.2.1 s.2.2.2.2.2.2.2.1 s.2.2.2.2.2.2.2.2.1 s.2.2.2.2.2.2.2.2.2.1 s.2.2.2.2.2.2.2.2.2.2.1 s.2.2.2.2.2.2.2.2.2.2.2.1 s.2.2.2.2.2.2.2.2.2.2.2.2.1 s.2.2.2.2.2.2.2.2.2.2.2.2.2.1 s.2.2.2.2.2.2.2.2.2.2.2.2.2.2.1 s.2.2.2.2.2.2.2.2.2.2.2.2.2.2.2.1 s.2.2.2.2.2.2.2.2.2.2.2.2.2.2.2.2)
    (fun i s => ∃ b v', du_Q n b v' s ∧ (∀ q, q < n → du_q (a q) (b q)) ∧ (∀ q, q < i → ¬ b q = 1)) n 0 t (Nat.zero_le n) ⟨a, v, hQ, fun q _ => Or.inl rfl, fun q hq => absurd hq (Nat.not_lt_zero q)⟩ ?_ ?_
  · intro m s hs
    obtain ⟨b, v', hQ, hq, h1⟩ := hs
    obtain ⟨e1, e2, e3, e4, e5, e6, e7, e8, e9, e10, e11, e12, e13, e14, e15, e16, e17⟩ := s
    have hGb := du_q_G hq hG
    refine pk_le n n (fun _ => du_sound hn hGb hQ (fun u hu => ?_)) (fun z => absurd z (by omega))
    obtain ⟨c1, c2, c3, c4, c5, c6, c7, c8, c9, c10, c11, c12, c13, c14, c15, c16, c17⟩ := u
    refine br_f (by decide) (du_doubts hn hGb hu h1 (fun u hu => ?_))
    obtain ⟨d1, d2, d3, d4, d5, d6, d7, d8, d9, d10, d11, d12, d13, d14, d15, d16, d17⟩ := u
    exact br_t rfl hp
  · intro m i s hi hs hw
    obtain ⟨b, v', hQ, hq, h1⟩ := hs
    obtain ⟨e1, e2, e3, e4, e5, e6, e7, e8, e9, e10, e11, e12, e13, e14, e15, e16, e17⟩ := s
    have hGb := du_q_G hq hG
    obtain ⟨k, hk, ek⟩ := (hGb.1 i hi).1
    have er : nI i - nI i / 6 * 6 = nI (i % 6) := pk_rem (d := 6) (by omega) (by decide) (by decide)
    refine pk_le n i (fun z => absurd z (by omega)) (fun _ => du_change (k := 9) (w := 0) hn hQ hi (by omega) (by omega) (fun x u hu => ?_))
    obtain ⟨c1, c2, c3, c4, c5, c6, c7, c8, c9, c10, c11, c12, c13, c14, c15, c16, c17⟩ := u
    have go : ∀ k', k' ≤ 9 → du_q (a i) (nI k') → ¬ nI k' = 1 →
        wL_law_320 post L xs (wL_law_287 post L xs (nI n) kc ks m) (nI n) (nI i) (nI k') (nI i) kc ks c1 c2 c3 c4 c5 c6 c7 c8 c9 c10 c11 c12 c13 c14 c15 c16 c17 := by
      intro k' hk' hqi hne
      unfold wL_law_320
      rw [er]
      refine ⟨by decide, du_change (k := k') (w := i % 6) hn hu hi hk' (by omega) (fun x' u hu => ?_)⟩
      obtain ⟨d1, d2, d3, d4, d5, d6, d7, d8, d9, d10, d11, d12, d13, d14, d15, d16, d17⟩ := u
      refine nm_r (nI_1 i) (hw (d1, d2, d3, d4, d5, d6, d7, d8, d9, d10, d11, d12, d13, d14, d15, d16, d17) ⟨_, _, hu, fun q hq' => ?_, fun q hq' => ?_⟩)
      · by_cases z : q = i
        · rw [z, pk_us]
          exact hqi
        · rw [pk_un z, pk_un z]
          exact hq q hq'
      · by_cases z : q = i
        · rw [z, pk_us]
          exact hne
        · rw [pk_un z, pk_un z]
          exact h1 q (by omega)
    refine br_c (fun z => ?_) (fun z => ?_)
    · refine go 0 (by omega) ?_ (by decide)
      have y := hq i hi
      rw [z] at y
      rcases y with y | y
      · exact Or.inr ⟨Or.inr y, Or.inl rfl⟩
      · exact Or.inr ⟨y.1, Or.inl rfl⟩
    · rw [ek]
      exact go k hk (by rw [← ek]; exact hq i hi) (by rw [← ek]; exact z)
/-! the law's second loop: two objects side by side -/
theorem du_249 {J : Int32 → Int32 → Int32 → Int32 → Int32 → Int32 → Int32 → (Nat → Int32) → (Nat → Int32) → (Nat → Int32) → (Nat → Int32) → (Nat → Int32) → (Nat → Int32) → (Nat → Int32) → (Nat → Int32) → (Nat → Int32) → (Nat → Int32) → (Nat → Int32) → Int32 → Int32 → Int32 → Int32 → Int32 → Int32 → (Nat → Int32) → (Nat → Int32) → (Nat → Int32) → (Nat → Int32) → (Nat → Int32) → (Nat → Int32) → (Nat → Int32) → (Nat → Int32) → (Nat → Int32) → (Nat → Int32) → (Nat → Int32) → Prop} {x5 x6 x9 z0 : Int32} {i : Nat} {a' v' : Nat → Int32} (hn : n ≤ 40) (hG : du_G a n) (hG' : du_G a' n) (hi : i < n)
    (hc : du_cm a' v' n i = du_cm a v n i) (hx : x9 &&& (z0 ^^^ (-1)) = 0) {u t : St1} (hu : du_Q n a' v' u) (ht : du_Q n a v t)
    (H : ∀ u t, du_Q n a' v' u → du_Q n a v t → J (nI (i + 1)) u.1 u.2.1 u.2.2.1 u.2.2.2.1 u.2.2.2.2.1 u.2.2.2.2.2.1 u.2.2.2.2.2.2.1 u.2.2.2.2.2.2.2.1 u.2.2.2.2.2.2.2.2.1 u.2.2.2.2.2.2.2.2.2.1 u.2.2.2.2.2.2.2.2.2.2.1 u.2.2.2.2.2.2.2.2.2.2.2.1 u.2.2.2.2.2.2.2.2.2.2.2.2.1 u.2.2.2.2.2.2.2.2.2.2.2.2.2.1 u.2.2.2.2.2.2.2.2.2.2.2.2.2.2.1 u.2.2.2.2.2.2.2.2.2.2.2.2.2.2.2.1 u.2.2.2.2.2.2.2.2.2.2.2.2.2.2.2.2 t.1 t.2.1 t.2.2.1 t.2.2.2.1 t.2.2.2.2.1 t.2.2.2.2.2.1 t.2.2.2.2.2.2.1 t.2.2.2.2.2.2.2.1 t.2.2.2.2.2.2.2.2.1 t.2.2.2.2.2.2.2.2.2.1 t.2.2.2.2.2.2.2.2.2.2.1 t.2.2.2.2.2.2.2.2.2.2.2.1 t.2.2.2.2.2.2.2.2.2.2.2.2.1 t.2.2.2.2.2.2.2.2.2.2.2.2.2.1 t.2.2.2.2.2.2.2.2.2.2.2.2.2.2.1 t.2.2.2.2.2.2.2.2.2.2.2.2.2.2.2.1 t.2.2.2.2.2.2.2.2.2.2.2.2.2.2.2.2) : wL_law_249 post L xs J x5 x6 (nI i) x9 z0 kc ks u.1 u.2.1 u.2.2.1 u.2.2.2.1 u.2.2.2.2.1 u.2.2.2.2.2.1 u.2.2.2.2.2.2.1 u.2.2.2.2.2.2.2.1 u.2.2.2.2.2.2.2.2.1 u.2.2.2.2.2.2.2.2.2.1 u.2.2.2.2.2.2.2.2.2.2.1 u.2.2.2.2.2.2.2.2.2.2.2.1 u.2.2.2.2.2.2.2.2.2.2.2.2.1 u.2.2.2.2.2.2.2.2.2.2.2.2.2.1 u.2.2.2.2.2.2.2.2.2.2.2.2.2.2.1 u.2.2.2.2.2.2.2.2.2.2.2.2.2.2.2.1 u.2.2.2.2.2.2.2.2.2.2.2.2.2.2.2.2 t.1 t.2.1 t.2.2.1 t.2.2.2.1 t.2.2.2.2.1 t.2.2.2.2.2.1 t.2.2.2.2.2.2.1 t.2.2.2.2.2.2.2.1 t.2.2.2.2.2.2.2.2.1 t.2.2.2.2.2.2.2.2.2.1 t.2.2.2.2.2.2.2.2.2.2.1 t.2.2.2.2.2.2.2.2.2.2.2.1 t.2.2.2.2.2.2.2.2.2.2.2.2.1 t.2.2.2.2.2.2.2.2.2.2.2.2.2.1 t.2.2.2.2.2.2.2.2.2.2.2.2.2.2.1 t.2.2.2.2.2.2.2.2.2.2.2.2.2.2.2.1 t.2.2.2.2.2.2.2.2.2.2.2.2.2.2.2.2 := by
  obtain ⟨c1, c2, c3, c4, c5, c6, c7, c8, c9, c10, c11, c12, c13, c14, c15, c16, c17⟩ := u
  obtain ⟨d1, d2, d3, d4, d5, d6, d7, d8, d9, d10, d11, d12, d13, d14, d15, d16, d17⟩ := t
  refine du_reached hn hG' hu hi (fun u hu => ?_)
  obtain ⟨c1, c2, c3, c4, c5, c6, c7, c8, c9, c10, c11, c12, c13, c14, c15, c16, c17⟩ := u
  refine du_reached hn hG ht hi (fun t ht => ?_)
  obtain ⟨d1, d2, d3, d4, d5, d6, d7, d8, d9, d10, d11, d12, d13, d14, d15, d16, d17⟩ := t
  exact br_t (congrArg du_b hc) (br_t hx (nm_r (nI_1 i) (H (c1, c2, c3, c4, c5, c6, c7, c8, c9, c10, c11, c12, c13, c14, c15, c16, c17) (d1, d2, d3, d4, d5, d6, d7, d8, d9, d10, d11, d12, d13, d14, d15, d16, d17) hu ht)))
theorem du_198 {k : Nat} {a' v' : Nat → Int32} (hp : post 1) (hn : n ≤ 40) (hG : du_G a n) (hG' : du_G a' n) (hk : k ≤ 9)
    (hc : ∀ q, q < n → du_cm a' v' n q = du_cm a v n q)
    (h1 : k = 1 → ∀ q, q < n → (du_sv a v n q) &&& ((du_sv a' v' n q) ^^^ (-1)) = 0)
    (h0 : ¬ k = 1 → ∀ q, q < n → (du_sv a' v' n q) &&& ((du_sv a v n q) ^^^ (-1)) = 0)
    {u t : St1} (hu : du_Q n a' v' u) (ht : du_Q n a v t) : ∃ m, wL_law_198 post L xs (nI n) (nI k) kc ks m 0 u.1 u.2.1 u.2.2.1 u.2.2.2.1 u.2.2.2.2.1 u.2.2.2.2.2.1 u.2.2.2.2.2.2.1 u.2.2.2.2.2.2.2.1 u.2.2.2.2.2.2.2.2.1 u.2.2.2.2.2.2.2.2.2.1 u.2.2.2.2.2.2.2.2.2.2.1 u.2.2.2.2.2.2.2.2.2.2.2.1 u.2.2.2.2.2.2.2.2.2.2.2.2.1 u.2.2.2.2.2.2.2.2.2.2.2.2.2.1 u.2.2.2.2.2.2.2.2.2.2.2.2.2.2.1 u.2.2.2.2.2.2.2.2.2.2.2.2.2.2.2.1 u.2.2.2.2.2.2.2.2.2.2.2.2.2.2.2.2 t.1 t.2.1 t.2.2.1 t.2.2.2.1 t.2.2.2.2.1 t.2.2.2.2.2.1 t.2.2.2.2.2.2.1 t.2.2.2.2.2.2.2.1 t.2.2.2.2.2.2.2.2.1 t.2.2.2.2.2.2.2.2.2.1 t.2.2.2.2.2.2.2.2.2.2.1 t.2.2.2.2.2.2.2.2.2.2.2.1 t.2.2.2.2.2.2.2.2.2.2.2.2.1 t.2.2.2.2.2.2.2.2.2.2.2.2.2.1 t.2.2.2.2.2.2.2.2.2.2.2.2.2.2.1 t.2.2.2.2.2.2.2.2.2.2.2.2.2.2.2.1 t.2.2.2.2.2.2.2.2.2.2.2.2.2.2.2.2 := by
  refine pk_loop (σ := St1 × St1) (fun m i s => wL_law_198 post L xs (nI n) (nI k) kc ks m (nI i) s.1.1 s.1.2.1 s.1.2.2.1 s.1.2.2.2.1 s.1.2.2.2.2.1 s.1.2.2.2.2.2.1 s.1.2.2.2.2.2.2.1 s.1.2.2.2.2.2.2.2.1 s.1.2.2.2.2.2.2.2.2.1 s.1.2.2.2.2.2.2.2.2.2.1 s.1.2.2.2.2.2.2.2.2.2.2.1 s.1.2.2.2.2.2.2.2.2.2.2.2.1 s.1.2.2.2.2.2.2.2.2.2.2.2.2.1 s.1.2.2.2.2.2.2.2.2.2.2.2.2.2.1 s.1.2.2.2.2.2.2.2.2.2.2.2.2.2.2.1 s.1.2.2.2.2.2.2.2.2.2.2.2.2.2.2.2.1 s.1.2.2.2.2.2.2.2.2.2.2.2.2.2.2.2.2 s.2.1 s.2.2.1 s.2.2.2.1 s.2.2.2.2.1 s.2.2.2.2.2.1 s.2.2.2.2.2.2.1 s.2.2.2.2.2.2.2.1 s.2.2.2.2.2.2.2.2.1 s.2.2.2.2.2.2.2.2.2.1 s.2.2.2.2.2.2.2.2.2.2.1 s.2.2.2.2.2.2.2.2.2.2.2.1 s.2.2.2.2.2.2.2.2.2.2.2.2.1 s.2.2.2.2.2.2.2.2.2.2.2.2.2.1 s.2.2.2.2.2.2.2.2.2.2.2.2.2.2.1 s.2.2.2.2.2.2.2.2.2.2.2.2.2.2.2.1 s.2.2.2.2.2.2.2.2.2.2.2.2.2.2.2.2.1 s.2.2.2.2.2.2.2.2.2.2.2.2.2.2.2.2.2)
    (fun i s => du_Q n a' v' s.1 ∧ du_Q n a v s.2) n 0 (u, t) (Nat.zero_le n) ⟨hu, ht⟩ ?_ ?_
  · intro m s hs
    exact pk_le n n (fun _ => du_287 hp hn hG hs.2) (fun z => absurd z (by omega))
  · intro m i s hi hs hw
    obtain ⟨u, t⟩ := s
    obtain ⟨hu, ht⟩ := hs
    have hu : du_Q n a' v' u := hu
    have ht : du_Q n a v t := ht
    obtain ⟨c1, c2, c3, c4, c5, c6, c7, c8, c9, c10, c11, c12, c13, c14, c15, c16, c17⟩ := u
    obtain ⟨d1, d2, d3, d4, d5, d6, d7, d8, d9, d10, d11, d12, d13, d14, d15, d16, d17⟩ := t
    refine pk_le n i (fun z => absurd z (by omega)) (fun _ => pk_eq k 1 (fun e => ?_) (fun e => ?_))
    · refine du_surely hn hG ht hi (fun t ht => ?_)
      obtain ⟨d1, d2, d3, d4, d5, d6, d7, d8, d9, d10, d11, d12, d13, d14, d15, d16, d17⟩ := t
      refine pk_eq k 1 (fun _ => ?_) (fun z => absurd e z)
      refine du_surely hn hG' hu hi (fun u hu => ?_)
      obtain ⟨c1, c2, c3, c4, c5, c6, c7, c8, c9, c10, c11, c12, c13, c14, c15, c16, c17⟩ := u
      exact du_249 (u := (c1, c2, c3, c4, c5, c6, c7, c8, c9, c10, c11, c12, c13, c14, c15, c16, c17)) (t := (d1, d2, d3, d4, d5, d6, d7, d8, d9, d10, d11, d12, d13, d14, d15, d16, d17)) hn hG hG' hi (hc i hi) (h1 e i hi) hu ht (fun u t hu ht => hw (u, t) ⟨hu, ht⟩)
    · refine du_surely hn hG' hu hi (fun u hu => ?_)
      obtain ⟨c1, c2, c3, c4, c5, c6, c7, c8, c9, c10, c11, c12, c13, c14, c15, c16, c17⟩ := u
      refine pk_eq k 1 (fun z => absurd z e) (fun _ => ?_)
      refine du_surely hn hG ht hi (fun t ht => ?_)
      obtain ⟨d1, d2, d3, d4, d5, d6, d7, d8, d9, d10, d11, d12, d13, d14, d15, d16, d17⟩ := t
      exact du_249 (u := (c1, c2, c3, c4, c5, c6, c7, c8, c9, c10, c11, c12, c13, c14, c15, c16, c17)) (t := (d1, d2, d3, d4, d5, d6, d7, d8, d9, d10, d11, d12, d13, d14, d15, d16, d17)) hn hG hG' hi (hc i hi) (h0 e i hi) hu ht (fun u t hu ht => hw (u, t) ⟨hu, ht⟩)
/-! the law's first loop -/
theorem du_130 {w k vv : Nat} (hp : post 1) (hn : n ≤ 40) (hG : du_G a n) (hw40 : w < 40) (hk : k ≤ 9) (hv : vv ≤ 5) (hkw : w < n → a w = nI k)
    {u t : St1} (hu : du_Q n a v u) (ht : du_Q n a v t) : ∃ m, wL_law_130 post L xs (nI w) (nI n) (nI k) (nI vv) kc ks m 0 u.1 u.2.1 u.2.2.1 u.2.2.2.1 u.2.2.2.2.1 u.2.2.2.2.2.1 u.2.2.2.2.2.2.1 u.2.2.2.2.2.2.2.1 u.2.2.2.2.2.2.2.2.1 u.2.2.2.2.2.2.2.2.2.1 u.2.2.2.2.2.2.2.2.2.2.1 u.2.2.2.2.2.2.2.2.2.2.2.1 u.2.2.2.2.2.2.2.2.2.2.2.2.1 u.2.2.2.2.2.2.2.2.2.2.2.2.2.1 u.2.2.2.2.2.2.2.2.2.2.2.2.2.2.1 u.2.2.2.2.2.2.2.2.2.2.2.2.2.2.2.1 u.2.2.2.2.2.2.2.2.2.2.2.2.2.2.2.2 t.1 t.2.1 t.2.2.1 t.2.2.2.1 t.2.2.2.2.1 t.2.2.2.2.2.1 t.2.2.2.2.2.2.1 t.2.2.2.2.2.2.2.1 t.2.2.2.2.2.2.2.2.1 t.2.2.2.2.2.2.2.2.2.1 t.2.2.2.2.2.2.2.2.2.2.1 t.2.2.2.2.2.2.2.2.2.2.2.1 t.2.2.2.2.2.2.2.2.2.2.2.2.1 t.2.2.2.2.2.2.2.2.2.2.2.2.2.1 t.2.2.2.2.2.2.2.2.2.2.2.2.2.2.1 t.2.2.2.2.2.2.2.2.2.2.2.2.2.2.2.1 t.2.2.2.2.2.2.2.2.2.2.2.2.2.2.2.2 := by
  refine pk_loop (σ := St1) (fun m i s => wL_law_130 post L xs (nI w) (nI n) (nI k) (nI vv) kc ks m (nI i) s.1 s.2.1 s.2.2.1 s.2.2.2.1 s.2.2.2.2.1 s.2.2.2.2.2.1 s.2.2.2.2.2.2.1 s.2.2.2.2.2.2.2.1 s.2.2.2.2.2.2.2.2.1 s.2.2.2.2.2.2.2.2.2.1 s.2.2.2.2.2.2.2.2.2.2.1 s.2.2.2.2.2.2.2.2.2.2.2.1 s.2.2.2.2.2.2.2.2.2.2.2.2.1 s.2.2.2.2.2.2.2.2.2.2.2.2.2.1 s.2.2.2.2.2.2.2.2.2.2.2.2.2.2.1 s.2.2.2.2.2.2.2.2.2.2.2.2.2.2.2.1 s.2.2.2.2.2.2.2.2.2.2.2.2.2.2.2.2 t.1 t.2.1 t.2.2.1 t.2.2.2.1 t.2.2.2.2.1 t.2.2.2.2.2.1 t.2.2.2.2.2.2.1 t.2.2.2.2.2.2.2.1 t.2.2.2.2.2.2.2.2.1 t.2.2.2.2.2.2.2.2.2.1 t.2.2.2.2.2.2.2.2.2.2.1 t.2.2.2.2.2.2.2.2.2.2.2.1 t.2.2.2.2.2.2.2.2.2.2.2.2.1 t.2.2.2.2.2.2.2.2.2.2.2.2.2.1 t.2.2.2.2.2.2.2.2.2.2.2.2.2.2.1 t.2.2.2.2.2.2.2.2.2.2.2.2.2.2.2.1 t.2.2.2.2.2.2.2.2.2.2.2.2.2.2.2.2)
    (fun i s => du_Q n a v s) n 0 u (Nat.zero_le n) hu ?_ ?_
  · intro m s hs
    obtain ⟨c1, c2, c3, c4, c5, c6, c7, c8, c9, c10, c11, c12, c13, c14, c15, c16, c17⟩ := s
    refine pk_le n n (fun _ => pk_le n w (fun _ => du_287 hp hn hG ht) (fun y => pk_le 2 k (fun _ => du_287 hp hn hG ht) (fun k2 => ?_))) (fun z => absurd z (by omega))
    have e1 : (1 : Int32) - nI k = nI (1 - k) := pk_sub (a := 1) (by omega)
    rw [e1]
    refine du_change hn hs y (by omega) hv (fun x u hu => ?_)
    obtain ⟨c1, c2, c3, c4, c5, c6, c7, c8, c9, c10, c11, c12, c13, c14, c15, c16, c17⟩ := u
    refine br_t (hkw y) ?_
    have hq : ∀ q, q < n → du_q (a q) (upd a w (nI (1 - k)) q) := by
      intro q hq
      by_cases z : q = w
      · rw [z, pk_us, hkw y]
        have k01 : k = 0 ∨ k = 1 := by omega
        rcases k01 with rfl | rfl
        · exact Or.inr ⟨Or.inl rfl, Or.inr rfl⟩
        · exact Or.inr ⟨Or.inr rfl, Or.inl rfl⟩
      · rw [pk_un z]
        exact Or.inl rfl
    have hG' := du_q_G hq hG
    by_cases c : k = 1
    · have W : du_W n a v (upd a w (nI (1 - k))) (upd v w x) := by
        intro q hq
        by_cases z : q = w
        · rw [z, pk_us, hkw y, c]
          exact Or.inr ⟨rfl, rfl⟩
        · rw [pk_un z, pk_un z]
          exact Or.inl ⟨rfl, rfl⟩
      exact du_198 hp hn hG hG' hk (fun q _ => (du_mono_cm hn W hG q).symm) (fun _ q _ => du_s_z (du_mono_sv hn W hG q)) (fun z => absurd c z) hu ht
    · have k0 : k = 0 := by omega
      have W : du_W n (upd a w (nI (1 - k))) (upd v w x) a v := by
        intro q hq
        by_cases z : q = w
        · rw [z, pk_us, hkw y, k0]
          exact Or.inr ⟨rfl, rfl⟩
        · rw [pk_un z, pk_un z]
          exact Or.inl ⟨rfl, rfl⟩
      exact du_198 hp hn hG hG' hk (fun q _ => du_mono_cm hn W hG' q) (fun z => absurd z c) (fun _ q _ => du_s_z (du_mono_sv hn W hG' q)) hu ht
  · intro m i s hi hs hw
    obtain ⟨c1, c2, c3, c4, c5, c6, c7, c8, c9, c10, c11, c12, c13, c14, c15, c16, c17⟩ := s
    refine pk_le n i (fun z => absurd z (by omega)) (fun _ => du_reached hn hG hs hi (fun u hu => ?_))
    obtain ⟨c1, c2, c3, c4, c5, c6, c7, c8, c9, c10, c11, c12, c13, c14, c15, c16, c17⟩ := u
    refine br_c (fun z => ?_) (fun z => nm_r (nI_1 i) (hw (c1, c2, c3, c4, c5, c6, c7, c8, c9, c10, c11, c12, c13, c14, c15, c16, c17) hu))
    have c : ¬ du_cm a v n i = true := by
      intro y
      rw [y] at z
      exact absurd z (by decide)
    have e : du_sv a v n i = 63 := if_neg c
    refine du_surely hn hG hu hi (fun u hu => ?_)
    obtain ⟨c1, c2, c3, c4, c5, c6, c7, c8, c9, c10, c11, c12, c13, c14, c15, c16, c17⟩ := u
    exact br_t e (nm_r (nI_1 i) (hw (c1, c2, c3, c4, c5, c6, c7, c8, c9, c10, c11, c12, c13, c14, c15, c16, c17) hu))
end
end
section
theorem du_want (r : Int32) : ∃ w, w < 40 ∧ (r &&& 2147483647) - (r &&& 2147483647) / 40 * 40 = nI w := by
  obtain ⟨j, hj, e⟩ := pk_andE r (m := 2147483647) 31 (by decide)
  refine ⟨j % 40, by omega, ?_⟩
  rw [e]
  exact pk_rem (d := 40) (by omega) (by decide) (by decide)
theorem du_cell {post : Int32 → Prop} {L : Nat} {xs : Nat → Int32} (hL : L ≤ 260) (H : ∀ r, post r) : wpL_cell post L xs () 0 :=
  pk_le L 0 (fun _ => H _) (fun h => ⟨pk_in 0 L h, H _⟩)
theorem du_info {n k v : Nat} (hn : n ≤ 40) (hk : k ≤ 9) (hv : v ≤ 5) : (nI n + 64 * nI (k + 16 * v)) &&& 63 = nI n ∧ ((nI n + 64 * nI (k + 16 * v)) >>> ((6 : Int32) &&& 31)) &&& 15 = nI k ∧ (nI n + 64 * nI (k + 16 * v)) >>> ((10 : Int32) &&& 31) = nI v := by
  have e1 : 64 * nI (k + 16 * v) = nI (64 * (k + 16 * v)) := pk_mul 64 _
  rw [e1, nI_add]
  refine ⟨?_, ?_, ?_⟩
  · rw [pk_andN (by omega) 6 (by decide)]
    exact congrArg nI (by omega)
  · rw [pk_shrN (by omega) _ 6 (by decide), pk_andN (by omega) 4 (by decide)]
    exact congrArg nI (by omega)
  · rw [pk_shrN (by omega) _ 10 (by decide)]
    exact congrArg nI (by omega)
theorem du_seen {w n : Nat} {y9 : Int32} {a : Nat → Int32} (h : du_sn w n y9 a) : ∃ k v, k ≤ 9 ∧ v ≤ 5 ∧ y9 = nI (k + 16 * v) ∧ (w < n → a w = nI k) := by
  by_cases c : w < n
  · obtain ⟨k, v, h1, h2, h3, h4⟩ := h.1 c
    exact ⟨k, v, h1, h2, h4, fun _ => h3⟩
  · exact ⟨0, 0, by omega, by omega, h.2 (by omega), fun y => absurd y c⟩
theorem i_vc (xs : Nat → Int32) (L : Nat) (hL : L ≤ 260) : wpL_law (fun r => r = 1) L xs := by
  unfold wpL_law
  refine ⟨11, 443, by decide, by decide, by decide, by decide, by decide, by decide, by decide, by decide, by decide, by decide, by decide, by decide, by decide, by decide, by decide, by decide, by decide, by decide, by decide, by decide, by decide, by decide, by decide, by decide, ?_⟩
  refine ⟨by decide, by decide, 11, 443, by decide, by decide, by decide, by decide, by decide, by decide, by decide, by decide, by decide, by decide, by decide, by decide, by decide, by decide, by decide, by decide, by decide, by decide, by decide, by decide, by decide, by decide, by decide, by decide, ?_⟩
  refine du_cell hL (fun r => ?_)
  obtain ⟨w, hw, ew⟩ := du_want r
  obtain ⟨n, y9, a, v, hn, hG, hs, run⟩ := du_program (xs := xs) hL hw
  obtain ⟨k, vv, hk, hv, e9, hkw⟩ := du_seen hs
  subst e9
  obtain ⟨i1, i2, i3⟩ := du_info hn hk hv
  refine ⟨by decide, nm_r ew (run _ _ _ _ _ _ _ _ _ _ _ _ _ _ (run _ _ _ _ _ _ _ _ _ _ _ _ _ _ ?_))⟩
  refine nm_r i1 (nm_r i2 (nm_r i3 (du_sound (n := n) (a := a) (v := v) hn hG ⟨rfl, rfl, rfl, Or.inl rfl⟩ (fun u hu => ?_))))
  obtain ⟨c1, c2, c3, c4, c5, c6, c7, c8, c9, c10, c11, c12, c13, c14, c15, c16, c17⟩ := u
  refine br_f (by decide) (pk_le n 40 (fun _ => pk_eq n 0 (fun n0 => ?_) (fun n0 => ?_)) (fun y => absurd y (by omega)))
  · refine du_doubts hn hG hu (fun q hq => absurd hq (by omega)) (fun u hu => ?_)
    obtain ⟨c1, c2, c3, c4, c5, c6, c7, c8, c9, c10, c11, c12, c13, c14, c15, c16, c17⟩ := u
    exact br_t rfl rfl
  · obtain ⟨f1, f2⟩ := du_first_n (v := v) (by omega) hG
    refine du_reached (p := 0) hn hG hu (by omega) (fun u hu => ?_)
    obtain ⟨c1, c2, c3, c4, c5, c6, c7, c8, c9, c10, c11, c12, c13, c14, c15, c16, c17⟩ := u
    refine br_f (by rw [f1]; decide) (du_surely (p := 0) hn hG hu (by omega) (fun u hu => ?_))
    obtain ⟨c1, c2, c3, c4, c5, c6, c7, c8, c9, c10, c11, c12, c13, c14, c15, c16, c17⟩ := u
    exact br_t f2 (du_130 (post := fun r => r = 1) (u := (c1, c2, c3, c4, c5, c6, c7, c8, c9, c10, c11, c12, c13, c14, c15, c16, c17)) (t := (nI n, 0, 0, 0, 0, 0, a, v, (fun _ => 0), (fun _ => 0), (fun _ => 0), (fun _ => 0), (fun _ => 0), (fun _ => 0), (fun _ => 0), (fun _ => 0), (fun _ => 0))) rfl hn hG hw hk hv hkw hu ⟨rfl, rfl, rfl, Or.inl rfl⟩)
end
