section
/-! pure rows: groups, what two facts add up to, counters -/
theorem qv_ic {α : Type} {c d : Prop} [Decidable c] [Decidable d] {x y : α} (h : c = d) : (if c then x else y) = (if d then x else y) := by
  by_cases e : c
  · rw [if_pos e, if_pos (h ▸ e)]
  · rw [if_neg e, if_neg (h ▸ e)]
/-- the group of a place in a grouping, as a natural -/
def qv_gp (p g : Nat) : Nat := (if g % 2 = 0 then 0 else p % 4) + 4 * (if g / 2 % 2 = 0 then 0 else p / 4 % 5) + 20 * (if g / 4 % 2 = 0 then 0 else p / 20)
theorem qv_gp_lt {p g : Nat} (hp : p < 120) : qv_gp p g < 120 := by
  unfold qv_gp
  split <;> split <;> split <;> omega
theorem qv_m1 : ∀ g, g < 8 → ((nI g &&& 1) = 0 ↔ g % 2 = 0) := by decide +kernel
theorem qv_m2 : ∀ g, g < 8 → ((nI g &&& 2) = 0 ↔ g / 2 % 2 = 0) := by decide +kernel
theorem qv_m4 : ∀ g, g < 8 → ((nI g &&& 4) = 0 ↔ g / 4 % 2 = 0) := by decide +kernel
theorem qv_covD : ∀ k, k < 8 → ∀ g, g < 8 → (¬ (nI k &&& nI g) = nI g) ∨ ((g % 2 = 0 ∨ k % 2 ≠ 0) ∧ (g / 2 % 2 = 0 ∨ k / 2 % 2 ≠ 0) ∧ (g / 4 % 2 = 0 ∨ k / 4 % 2 ≠ 0)) := by decide +kernel
theorem qv_cov {k g : Nat} (hk : k < 8) (hg : g < 8) (h : (nI k &&& nI g) = nI g) : (g % 2 = 0 ∨ k % 2 ≠ 0) ∧ (g / 2 % 2 = 0 ∨ k / 2 % 2 ≠ 0) ∧ (g / 4 % 2 = 0 ∨ k / 4 % 2 ≠ 0) := (qv_covD k hk g hg).resolve_left (fun t => t h)
theorem qv_gpgp {p k g : Nat} (hp : p < 120) (hk : k < 8) (hg : g < 8) (h : (nI k &&& nI g) = nI g) : qv_gp (qv_gp p k) g = qv_gp p g := by
  obtain ⟨h1, h2, h3⟩ := qv_cov hk hg h
  have e1 : g % 2 = 0 ∨ qv_gp p k % 4 = p % 4 := by
    rcases h1 with h1 | h1
    · exact Or.inl h1
    · right; unfold qv_gp; rw [if_neg h1]; omega
  have e2 : g / 2 % 2 = 0 ∨ qv_gp p k / 4 % 5 = p / 4 % 5 := by
    rcases h2 with h2 | h2
    · exact Or.inl h2
    · right; unfold qv_gp; rw [if_neg h2]; split <;> omega
  have e3 : g / 4 % 2 = 0 ∨ qv_gp p k / 20 = p / 20 := by
    rcases h3 with h3 | h3
    · exact Or.inl h3
    · right; unfold qv_gp; rw [if_neg h3]; split <;> split <;> omega
  generalize qv_gp p k = w at e1 e2 e3
  unfold qv_gp
  rcases e1 with e1 | e1 <;> rcases e2 with e2 | e2 <;> rcases e3 with e3 | e3 <;> simp only [e1, e2, e3, if_true]
/-- the law's 'same' is: equal groups -/
theorem qv_same {p q g : Nat} (hp : p < 120) (hq : q < 120) : qv_gp p g = qv_gp q g ↔ ((g % 2 = 0 ∨ p % 4 = q % 4) ∧ (g / 2 % 2 = 0 ∨ p / 4 % 5 = q / 4 % 5) ∧ (g / 4 % 2 = 0 ∨ p / 20 = q / 20)) := by
  unfold qv_gp
  by_cases h1 : g % 2 = 0 <;> by_cases h2 : g / 2 % 2 = 0 <;> by_cases h3 : g / 4 % 2 = 0 <;> simp only [h1, h2, h3, if_true, if_false, true_or, false_or, true_and, and_true] <;> omega
/-- C with m more at p's group of every grouping -/
def qv_A (C : Nat → Nat → Int32) (p : Nat) (m : Int32) : Nat → Nat → Int32 := fun g c => C g c + if qv_gp p g = c then m else 0
/-- two facts at p and q: what they add up to at place c of grouping g -/
def qv_S (p q : Nat) (x y : Int32) : Nat → Nat → Int32 := qv_A (qv_A (fun _ _ => 0) p x) q y
/-- the kept groupings' cells hold C -/
def qv_K (a5 a : Nat → Int32) (C : Nat → Nat → Int32) : Prop := ∀ g, g < 8 → a5 g ≠ 0 → ∀ c, c < 120 → a (120 * g + c) = C g c
theorem qv_K0 {a5 a : Nat → Int32} (h : ∀ j, a j = 0) : qv_K a5 a (fun _ _ => 0) := fun _ _ _ _ _ => h _
/-- half way through enter: the groupings below i have it -/
def qv_AI (C : Nat → Nat → Int32) (p : Nat) (m : Int32) (i : Nat) : Nat → Nat → Int32 := fun g c => if g < i then qv_A C p m g c else C g c
theorem qv_AI0 {a5 a : Nat → Int32} {C : Nat → Nat → Int32} {p : Nat} {m : Int32} (h : qv_K a5 a C) : qv_K a5 a (qv_AI C p m 0) := by
  intro g hg hk c hc
  rw [h g hg hk c hc]
  unfold qv_AI
  rw [if_neg (by omega)]
theorem qv_AI8 {a5 a : Nat → Int32} {C : Nat → Nat → Int32} {p : Nat} {m : Int32} (h : qv_K a5 a (qv_AI C p m 8)) : qv_K a5 a (qv_A C p m) := by
  intro g hg hk c hc
  rw [h g hg hk c hc]
  unfold qv_AI
  rw [if_pos hg]
theorem qv_AIn {a5 a : Nat → Int32} {C : Nat → Nat → Int32} {p i : Nat} {m : Int32} (hz : a5 i = 0) (h : qv_K a5 a (qv_AI C p m i)) : qv_K a5 a (qv_AI C p m (i + 1)) := by
  intro g hg hk c hc
  have e : g ≠ i := fun e => hk (e ▸ hz)
  rw [h g hg hk c hc]
  unfold qv_AI
  by_cases l : g < i
  · rw [if_pos l, if_pos (by omega)]
  · rw [if_neg l, if_neg (by omega)]
theorem qv_AIs {a5 a : Nat → Int32} {C : Nat → Nat → Int32} {p i : Nat} {m : Int32} (hp : p < 120) (h : qv_K a5 a (qv_AI C p m i)) : qv_K a5 (upd a (120 * i + qv_gp p i) (a (120 * i + qv_gp p i) + m)) (qv_AI C p m (i + 1)) := by
  intro g hg hk c hc
  have hl : qv_gp p i < 120 := qv_gp_lt hp
  by_cases e : 120 * g + c = 120 * i + qv_gp p i
  · have e1 : g = i := by omega
    have e2 : qv_gp p i = c := by omega
    rw [e, pk_us, ← e, h g hg hk c hc]
    unfold qv_AI qv_A
    rw [if_neg (by omega), if_pos (by omega), e1, if_pos e2]
  · rw [pk_un e, h g hg hk c hc]
    unfold qv_AI qv_A
    by_cases l : g < i
    · rw [if_pos l, if_pos (show g < i + 1 by omega)]
    · rw [if_neg l]
      by_cases l2 : g = i
      · rw [if_pos (show g < i + 1 by omega), if_neg (fun t => e (by rw [← t, l2])), Int32.add_zero]
      · rw [if_neg (show ¬ g < i + 1 by omega)]
/-- two facts, read off the cells of grouping k below i, for grouping g -/
def qv_T (p q : Nat) (x y : Int32) (k g i c : Nat) : Int32 := (0 + if qv_gp p k < i ∧ qv_gp p g = c then x else 0) + if qv_gp q k < i ∧ qv_gp q g = c then y else 0
theorem qv_T0 {p q : Nat} {x y : Int32} {k g c : Nat} : qv_T p q x y k g 0 c = 0 := by
  unfold qv_T
  rw [if_neg (by omega), if_neg (by omega)]
  rfl
theorem qv_TS {p q : Nat} {x y : Int32} {k g c : Nat} (hp : p < 120) (hq : q < 120) : qv_T p q x y k g 120 c = qv_S p q x y g c := by
  have h1 : qv_gp p k < 120 := qv_gp_lt hp
  have h2 : qv_gp q k < 120 := qv_gp_lt hq
  unfold qv_T qv_S qv_A
  simp only [h1, h2, true_and]
theorem qv_Tn {p q : Nat} {x y : Int32} {k g i c : Nat} (h1 : qv_gp p k ≠ i) (h2 : qv_gp q k ≠ i) : qv_T p q x y k g (i + 1) c = qv_T p q x y k g i c := by
  have e1 : (qv_gp p k < i + 1) = (qv_gp p k < i) := propext ⟨fun _ => by omega, fun _ => by omega⟩
  have e2 : (qv_gp q k < i + 1) = (qv_gp q k < i) := propext ⟨fun _ => by omega, fun _ => by omega⟩
  unfold qv_T
  simp only [e1, e2]
theorem qv_alg1 (u v : Int32) : 0 + 0 + v + (0 + u + 0) = 0 + u + v := by grind
theorem qv_alg2 (u v : Int32) : 0 + u + 0 + (0 + 0 + v) = 0 + u + v := by grind
theorem qv_alg3 (u v : Int32) : (0 + 0 + 0 + (0 + u + v) : Int32) = 0 + u + v := by grind
theorem qv_alg4 (u v : Int32) : 0 + u + v + (0 + 0 + 0) = 0 + u + v := by grind
theorem qv_Ts {p q : Nat} {x y : Int32} {k g i : Nat} {s : Nat → Int32} (ep : qv_gp (qv_gp p k) g = qv_gp p g) (eq : qv_gp (qv_gp q k) g = qv_gp q g) (h : ∀ c, c < 120 → s c = qv_T p q x y k g i c) (hl : qv_gp i g < 120) :
    ∀ c, c < 120 → upd s (qv_gp i g) (s (qv_gp i g) + qv_S p q x y k i) c = qv_T p q x y k g (i + 1) c := by
  intro c hc
  by_cases ec : c = qv_gp i g
  · subst ec
    rw [pk_us, h _ hc]
    unfold qv_T qv_S qv_A
    by_cases e1 : qv_gp p k = i
    · rw [e1] at ep
      by_cases e2 : qv_gp q k = i
      · rw [e2] at eq
        rw [if_neg (by omega), if_neg (by omega), if_pos e1, if_pos e2, if_pos ⟨by omega, ep.symm⟩, if_pos ⟨by omega, eq.symm⟩]
        exact qv_alg3 x y
      · have e3 : (qv_gp q k < i + 1) = (qv_gp q k < i) := propext ⟨fun _ => by omega, fun _ => by omega⟩
        simp only [e3]
        generalize (if qv_gp q k < i ∧ qv_gp q g = qv_gp i g then y else 0) = v
        rw [if_neg (by omega), if_pos e1, if_neg e2, if_pos ⟨by omega, ep.symm⟩]
        exact qv_alg1 x v
    · have e4 : (qv_gp p k < i + 1) = (qv_gp p k < i) := propext ⟨fun _ => by omega, fun _ => by omega⟩
      simp only [e4]
      generalize (if qv_gp p k < i ∧ qv_gp p g = qv_gp i g then x else 0) = u
      by_cases e2 : qv_gp q k = i
      · rw [e2] at eq
        rw [if_neg (by omega), if_neg e1, if_pos e2, if_pos ⟨by omega, eq.symm⟩]
        exact qv_alg2 u y
      · have e3 : (qv_gp q k < i + 1) = (qv_gp q k < i) := propext ⟨fun _ => by omega, fun _ => by omega⟩
        simp only [e3]
        rw [if_neg e1, if_neg e2]
        exact qv_alg4 u _
  · rw [pk_un ec, h c hc]
    have e1 : (qv_gp p k < i + 1 ∧ qv_gp p g = c) = (qv_gp p k < i ∧ qv_gp p g = c) := propext ⟨fun t => ⟨by
      by_cases z : qv_gp p k = i
      · rw [z] at ep
        exact absurd (ep.trans t.2).symm ec
      · have := t.1
        omega, t.2⟩, fun t => ⟨by have := t.1; omega, t.2⟩⟩
    have e2 : (qv_gp q k < i + 1 ∧ qv_gp q g = c) = (qv_gp q k < i ∧ qv_gp q g = c) := propext ⟨fun t => ⟨by
      by_cases z : qv_gp q k = i
      · rw [z] at eq
        exact absurd (eq.trans t.2).symm ec
      · have := t.1
        omega, t.2⟩, fun t => ⟨by have := t.1; omega, t.2⟩⟩
    unfold qv_T
    rw [qv_ic e1, qv_ic e2]
/-- a group's count is above 0 just at the two facts' groups -/
theorem qv_pos {p q g c : Nat} : qv_S p q 1 1 g c ≤ 0 ↔ (qv_gp p g ≠ c ∧ qv_gp q g ≠ c) := by
  unfold qv_S qv_A
  by_cases h1 : qv_gp p g = c <;> by_cases h2 : qv_gp q g = c <;> simp only [h1, h2, if_true, if_false, ne_eq, not_true, not_false_iff, and_true, true_and, and_false, false_and, iff_true, iff_false] <;> decide
/-- how many of P, Q (once if they are one) lie below i and pass t -/
def qv_n (P Q : Nat) (t : Nat → Bool) (i : Nat) : Nat := (if P < i ∧ t P = true then 1 else 0) + (if Q < i ∧ P ≠ Q ∧ t Q = true then 1 else 0)
theorem qv_n0 {P Q : Nat} {t : Nat → Bool} : qv_n P Q t 0 = 0 := by
  unfold qv_n
  rw [if_neg (by omega), if_neg (by omega)]
theorem qv_nn {P Q i : Nat} {t : Nat → Bool} (h : (P ≠ i ∧ Q ≠ i) ∨ t i = false) : qv_n P Q t (i + 1) = qv_n P Q t i := by
  have e1 : (P < i + 1 ∧ t P = true) = (P < i ∧ t P = true) := propext ⟨fun z => ⟨by
    by_cases w : P = i
    · rcases h with h | h
      · exact absurd w h.1
      · rw [w, h] at z
        exact absurd z.2 (by decide)
    · have := z.1
      omega, z.2⟩, fun z => ⟨by have := z.1; omega, z.2⟩⟩
  have e2 : (Q < i + 1 ∧ P ≠ Q ∧ t Q = true) = (Q < i ∧ P ≠ Q ∧ t Q = true) := propext ⟨fun z => ⟨by
    by_cases w : Q = i
    · rcases h with h | h
      · exact absurd w h.2
      · rw [w, h] at z
        exact absurd z.2.2 (by decide)
    · have := z.1
      omega, z.2⟩, fun z => ⟨by have := z.1; omega, z.2⟩⟩
  unfold qv_n
  rw [qv_ic e1, qv_ic e2]
theorem qv_ny {P Q i : Nat} {t : Nat → Bool} (h : P = i ∨ Q = i) (ht : t i = true) : qv_n P Q t (i + 1) = qv_n P Q t i + 1 := by
  unfold qv_n
  by_cases e : P = i
  · subst e
    by_cases e2 : P = Q
    · subst e2
      rw [if_pos ⟨by omega, ht⟩, if_neg (fun z => z.2.1 rfl), if_neg (by omega), if_neg (fun z => z.2.1 rfl)]
    · have e3 : (Q < P + 1 ∧ P ≠ Q ∧ t Q = true) = (Q < P ∧ P ≠ Q ∧ t Q = true) := propext ⟨fun z => ⟨by have := z.1; omega, z.2⟩, fun z => ⟨by have := z.1; omega, z.2⟩⟩
      rw [qv_ic e3, if_pos ⟨by omega, ht⟩, if_neg (c := P < P ∧ t P = true) (by omega)]
      omega
  · have e2 : Q = i := h.resolve_left e
    subst e2
    have e3 : (P < Q + 1 ∧ t P = true) = (P < Q ∧ t P = true) := propext ⟨fun z => ⟨by have := z.1; omega, z.2⟩, fun z => ⟨by have := z.1; omega, z.2⟩⟩
    rw [qv_ic e3, if_pos (show Q < Q + 1 ∧ P ≠ Q ∧ t Q = true from ⟨by omega, e, ht⟩), if_neg (c := Q < Q ∧ P ≠ Q ∧ t Q = true) (by omega)]
theorem qv_n_end {P Q : Nat} {t : Nat → Bool} (hP : P < 120) (hQ : Q < 120) : qv_n P Q t 120 = (if t P = true then 1 else 0) + (if P ≠ Q ∧ t Q = true then 1 else 0) := by
  unfold qv_n
  simp only [hP, hQ, true_and]
/-- the greater of two -/
def qv_mx (a b : Int32) : Int32 := if a ≤ b then b else a
end
section
/-! walks of the small methods -/
theorem qv_cells {post : Int32 → Prop} (u : St2) (x : Int32) (H : ∀ r, post r) : wpX_cells post u x := by
  obtain ⟨c, a1, a2, a3, a4, a5, a6, a7, a8, a9⟩ := u
  exact br_c (fun _ => br_c (fun _ => br_c (fun _ => H _) (fun _ => H _)) (fun _ => br_c (fun _ => H _) (fun _ => H _)))
    (fun _ => br_c (fun _ => br_c (fun _ => H _) (fun _ => H _)) (fun _ => br_c (fun _ => H _) (fun _ => H _)))
theorem qv_ww41 {post : Int32 → Prop} {J4 J18 : Int32 → Int32 → Prop} {x1 x2 x3 x4 x5 x6 c : Int32} {a1 a2 a3 a4 a5 a6 a7 a8 a9 : Nat → Int32} (e : x5 + 1 = x6) (H : ∀ y, J18 y x6) :
    wX_workWith_41 post J4 J18 x1 x2 x3 x4 x5 c a1 a2 a3 a4 a5 a6 a7 a8 a9 :=
  br_c (fun _ => qv_cells _ _ (fun r => br_c (fun _ => nm_r e (H _)) (fun _ => qv_cells _ _ (fun r => nm_r e (H _))))) (fun _ => nm_r e (H _))
theorem qv_ww18 {post : Int32 → Prop} {J4 : Int32 → Int32 → Prop} {x1 x2 x3 x3' c : Int32} {a1 a2 a3 a4 a5 a6 a7 a8 a9 : Nat → Int32} (x4 : Int32) (e : x3 + 1 = x3') (H : ∀ y, J4 y x3') :
    ∃ n, wX_workWith_18 post J4 x1 x2 x3 c a1 a2 a3 a4 a5 a6 a7 a8 a9 n x4 0 :=
  pk_loop (fun n i s => wX_workWith_18 post J4 x1 x2 x3 c a1 a2 a3 a4 a5 a6 a7 a8 a9 n s (nI i)) (fun _ _ => True) 8 0 x4 (by omega) trivial
    (fun n s _ => pk_le 8 8 (fun _ => nm_e (nm_r e (H _))) (fun z => absurd z (by omega)))
    (fun n i s hi _ hw => pk_le 8 i (fun z => absurd z (by omega)) (fun _ => ⟨pk_in i 8 hi, br_c (fun _ => br_c (fun _ => qv_ww41 (nI_1 i) (fun y => hw y trivial)) (fun _ => nm_r (nI_1 i) (hw s trivial))) (fun _ => qv_ww41 (nI_1 i) (fun y => hw y trivial))⟩))
theorem qv_ww {post : Int32 → Prop} (u : St2) (x : Int32) (H : ∀ r, post r) : wpX_workWith post u x := by
  obtain ⟨c, a1, a2, a3, a4, a5, a6, a7, a8, a9⟩ := u
  exact pk_loop (fun n i s => wX_workWith_4 post x c a1 a2 a3 a4 a5 a6 a7 a8 a9 n s (nI i)) (fun _ _ => True) 8 0 0 (by omega) trivial
    (fun n s _ => pk_le 8 8 (fun _ => H _) (fun z => absurd z (by omega)))
    (fun n i s hi _ hw => pk_le 8 i (fun z => absurd z (by omega)) (fun _ => qv_ww18 160 (nI_1 i) (fun y => hw y trivial)))
theorem qv_r4 {p : Nat} (hp : p < 120) : nI p - nI p / 4 * 4 = nI (p % 4) := pk_rem (d := 4) (by omega) (by decide) (by decide)
theorem qv_r5 {p : Nat} (hp : p < 120) : (nI p / 4) - (nI p / 4) / 5 * 5 = nI (p / 4 % 5) := by
  have e : nI p / 4 = nI (p / 4) := pk_div (d := 4) (by omega) (by decide) (by decide)
  rw [e]
  exact pk_rem (d := 5) (by omega) (by decide) (by decide)
theorem qv_d20 {p : Nat} (hp : p < 120) : nI p / 20 = nI (p / 20) := pk_div (d := 20) (by omega) (by decide) (by decide)
theorem qv_at (g i : Nat) : (120 : Int32) * nI g + nI i = nI (120 * g + i) := by
  rw [show (120 : Int32) = nI 120 from rfl, pk_mul, nI_add]
theorem qv_g48 {post : Int32 → Prop} {r k m : Nat} {c : Int32} {a1 a2 a3 a4 a5 a6 a7 a8 a9 : Nat → Int32} (H : post (nI (r + 4 * k + 20 * m))) : wX_group_48 post (nI r) (nI k) (nI m) c a1 a2 a3 a4 a5 a6 a7 a8 a9 := by
  have e : (nI r + (4 * nI k)) + (20 * nI m) = nI (r + 4 * k + 20 * m) := by
    rw [show (4 : Int32) = nI 4 from rfl, show (20 : Int32) = nI 20 from rfl, pk_mul, pk_mul, nI_add, nI_add]
  unfold wX_group_48
  rw [e]
  exact H
theorem qv_g31 {post : Int32 → Prop} {p g r k : Nat} {c : Int32} {a1 a2 a3 a4 a5 a6 a7 a8 a9 : Nat → Int32} (hp : p < 120) (hg : g < 8) (H : post (nI (r + 4 * k + 20 * (if g / 4 % 2 = 0 then 0 else p / 20)))) : wX_group_31 post (nI p) (nI g) (nI r) (nI k) c a1 a2 a3 a4 a5 a6 a7 a8 a9 := by
  refine ek_if (qv_m4 g hg) (fun h => ?_) (fun h => ⟨by decide, ?_⟩)
  · rw [if_pos h] at H
    exact qv_g48 (m := 0) H
  · rw [if_neg h] at H
    rw [qv_d20 hp]
    exact qv_g48 H
theorem qv_g15 {post : Int32 → Prop} {p g r : Nat} {c : Int32} {a1 a2 a3 a4 a5 a6 a7 a8 a9 : Nat → Int32} (hp : p < 120) (hg : g < 8) (H : post (nI (r + 4 * (if g / 2 % 2 = 0 then 0 else p / 4 % 5) + 20 * (if g / 4 % 2 = 0 then 0 else p / 20)))) : wX_group_15 post (nI p) (nI g) (nI r) c a1 a2 a3 a4 a5 a6 a7 a8 a9 := by
  refine ek_if (qv_m2 g hg) (fun h => ?_) (fun h => ⟨by decide, by decide, ?_⟩)
  · rw [if_pos h] at H
    exact qv_g31 (k := 0) hp hg H
  · rw [if_neg h] at H
    rw [qv_r5 hp]
    exact qv_g31 hp hg H
theorem qv_group {post : Int32 → Prop} {p g : Nat} (u : St2) (hp : p < 120) (hg : g < 8) (H : post (nI (qv_gp p g))) : wpX_group post u (nI p) (nI g) := by
  obtain ⟨c, a1, a2, a3, a4, a5, a6, a7, a8, a9⟩ := u
  unfold qv_gp at H
  refine ek_if (qv_m1 g hg) (fun h => ?_) (fun h => ⟨by decide, ?_⟩)
  · rw [if_pos h] at H
    exact qv_g15 (r := 0) hp hg H
  · rw [if_neg h] at H
    rw [qv_r4 hp]
    exact qv_g15 hp hg H
theorem qv_bit : ∀ j, j < 15 → ((32767 : Int32) >>> (nI j &&& 31)) &&& 1 = 1 := by decide +kernel
theorem qv_p76 {post : Int32 → Prop} {c : Int32} {a1 a2 a3 a4 a5 a6 a7 a8 a9 : Nat → Int32} (H : post 1) : wX_passes_76 post 1 1 c a1 a2 a3 a4 a5 a6 a7 a8 a9 :=
  br_f (by decide) (br_f (by decide) (br_f (by decide) H))
theorem qv_p47 {post : Int32 → Prop} {p : Nat} {d c : Int32} {a1 a2 a3 a4 a5 a6 a7 a8 a9 : Nat → Int32} (hp : p < 120) (H : post 1) : wX_passes_47 post (nI p) 32767 d 1 c a1 a2 a3 a4 a5 a6 a7 a8 a9 := by
  refine br_c (fun _ => qv_p76 H) (fun _ => ⟨by decide, br_t ?_ (qv_p76 H)⟩)
  rw [qv_d20 hp, show (9 : Int32) = nI 9 from rfl, nI_add]
  exact qv_bit _ (by omega)
theorem qv_p19 {post : Int32 → Prop} {p : Nat} {d c : Int32} {a1 a2 a3 a4 a5 a6 a7 a8 a9 : Nat → Int32} (hp : p < 120) (H : post 1) : wX_passes_19 post (nI p) 32767 d c a1 a2 a3 a4 a5 a6 a7 a8 a9 := by
  refine br_c (fun _ => qv_p47 hp H) (fun _ => ⟨by decide, by decide, br_t ?_ (qv_p47 hp H)⟩)
  rw [qv_r5 hp, show (4 : Int32) = nI 4 from rfl, nI_add]
  exact qv_bit _ (by omega)
theorem qv_passes {post : Int32 → Prop} {p : Nat} {d : Int32} (u : St2) (hp : p < 120) (H : post 1) : wpX_passes post u (nI p) 32767 d := by
  obtain ⟨c, a1, a2, a3, a4, a5, a6, a7, a8, a9⟩ := u
  refine br_c (fun _ => qv_p19 hp H) (fun _ => ⟨by decide, br_t ?_ (qv_p19 hp H)⟩)
  rw [qv_r4 hp]
  exact qv_bit _ (by omega)
theorem qv_cuts {post : Int32 → Prop} (u : St2) (H : post 0) : wpX_cuts post u 32767 := by
  obtain ⟨c, a1, a2, a3, a4, a5, a6, a7, a8, a9⟩ := u
  exact br_t (by decide) (br_t (by decide) (br_t (by decide) H))
theorem qv_note {post : St2 → Prop} {c : Int32} {a1 a2 a3 a4 a5 a6 a7 a8 a9 : Nat → Int32} {k : Nat} {m v : Int32} (hk : k < 120) (H : post (c, a1, a2, a3, a4, a5, a6, a7, upd a8 k (a8 k + m), upd a9 k (a9 k + v))) : wpX_note post (c, a1, a2, a3, a4, a5, a6, a7, a8, a9) (nI k) m v := by
  unfold wpX_note
  dsimp only
  rw [nI_clamp (show k < 2 ^ 31 by omega)]
  exact ⟨pk_in k 120 hk, pk_in k 120 hk, nm_e ⟨pk_in k 120 hk, pk_in k 120 hk, nm_e H⟩⟩
theorem qv_badG {post : Int32 → Prop} {g : Nat} (u : St2) (hg : g < 8) (H : post 0) : wpX_badGrouping post u (nI g) := by
  obtain ⟨c, a1, a2, a3, a4, a5, a6, a7, a8, a9⟩ := u
  exact br_f (nI_pos (by omega)) (pk_lt g 8 (fun _ => H) (fun z => absurd z (by omega)))
theorem qv_badF {post : Int32 → Prop} (u : St2) (H : post 0) : wpX_badFilter post u 32767 := by
  obtain ⟨c, a1, a2, a3, a4, a5, a6, a7, a8, a9⟩ := u
  exact br_f (by decide) (br_t (by decide) H)
end
section
/-! plan with no fact: whatever it keeps, the cells stay zero -/
theorem qv_z {f : Nat → Int32} {k : Nat} (h : ∀ j, f j = 0) : ∀ j, upd f k 0 j = 0 := by
  intro j
  unfold upd
  split
  · rfl
  · exact h j
theorem qv_fill {post : St2 → Prop} {a1 a2 a3 a4 a5 a6 a7 a8 a9 : Nat → Int32} {g : Nat} (hg : g < 8) (z6 : ∀ j, a6 j = 0) (z7 : ∀ j, a7 j = 0)
    (H : ∀ b6 b7 : Nat → Int32, (∀ j, b6 j = 0) → (∀ j, b7 j = 0) → post (0, a1, a2, a3, a4, a5, b6, b7, a8, a9)) : wpX_fill post (0, a1, a2, a3, a4, a5, a6, a7, a8, a9) (nI g) :=
  pk_loop (σ := (Nat → Int32) × (Nat → Int32)) (fun n i s => wX_fill_2 post (nI g) 0 n (nI i) a1 a2 a3 a4 a5 s.1 s.2 a8 a9) (fun _ s => (∀ j, s.1 j = 0) ∧ (∀ j, s.2 j = 0)) 120 0 (a6, a7) (by omega) ⟨z6, z7⟩
    (fun n s h => pk_le 120 120 (fun _ => ⟨0 + 1, br_t (by decide) (H s.1 s.2 h.1 h.2)⟩) (fun z => absurd z (by omega)))
    (fun n i s hi h hw => pk_le 120 i (fun z => absurd z (by omega)) (fun _ => ⟨pk_in (120 * g + i) 960 (by omega) (qv_at g i), nm_e ⟨pk_in (120 * g + i) 960 (by omega) (qv_at g i), nm_e (nm_r (nI_1 i) (hw (_, _) ⟨qv_z h.1, qv_z h.2⟩))⟩⟩))
theorem qv_plan138 {post : Int32 → St2 → Prop} {J42 : Int32 → Int32 → Int32 → Int32 → (Nat → Int32) → (Nat → Int32) → (Nat → Int32) → (Nat → Int32) → (Nat → Int32) → (Nat → Int32) → (Nat → Int32) → (Nat → Int32) → (Nat → Int32) → Prop} {x2 x4 y4 x6 z0 : Int32} {a1 a2 a3 a4 a5 a6 a7 a8 a9 : Nat → Int32}
    (hz : z0 = 0 ∨ ∃ g : Nat, g < 8 ∧ x6 = nI g) (z6 : ∀ j, a6 j = 0) (z7 : ∀ j, a7 j = 0) (e : x4 + 1 = y4)
    (H : ∀ (x z : Int32) (b5 b6 b7 : Nat → Int32), (∀ j, b6 j = 0) → (∀ j, b7 j = 0) → J42 x z y4 0 a1 a2 a3 a4 b5 b6 b7 a8 a9) : wX_plan_138 post J42 x2 x4 x6 z0 0 a1 a2 a3 a4 a5 a6 a7 a8 a9 := by
  refine br_c (fun _ => nm_r e (H _ _ _ _ _ z6 z7)) (fun hne => ?_)
  obtain ⟨g, hg, rfl⟩ := hz.resolve_left hne
  exact ⟨pk_in g 8 hg, nm_e (qv_cells _ _ (fun r => nm_e (qv_fill hg z6 z7 (fun b6 b7 h6 h7 => nm_r e (H _ _ _ _ _ h6 h7)))))⟩
theorem qv_plan69 {post : Int32 → St2 → Prop} {J42 : Int32 → Int32 → Int32 → Int32 → (Nat → Int32) → (Nat → Int32) → (Nat → Int32) → (Nat → Int32) → (Nat → Int32) → (Nat → Int32) → (Nat → Int32) → (Nat → Int32) → (Nat → Int32) → Prop} {x2 x4 y4 x5 : Int32} {a1 a2 a3 a4 a5 a6 a7 a8 a9 : Nat → Int32}
    (z6 : ∀ j, a6 j = 0) (z7 : ∀ j, a7 j = 0) (e : x4 + 1 = y4)
    (H : ∀ (x z : Int32) (b5 b6 b7 : Nat → Int32), (∀ j, b6 j = 0) → (∀ j, b7 j = 0) → J42 x z y4 0 a1 a2 a3 a4 b5 b6 b7 a8 a9) : ∃ n, wX_plan_69 post J42 x2 x4 x5 0 a1 a2 a3 a4 a5 a6 a7 a8 a9 n (-1) 0 0 :=
  pk_loop (σ := Int32 × Int32) (fun n i s => wX_plan_69 post J42 x2 x4 x5 0 a1 a2 a3 a4 a5 a6 a7 a8 a9 n s.1 s.2 (nI i)) (fun _ s => s.1 < 0 ∨ ∃ g : Nat, g < 8 ∧ s.1 = nI g) 8 0 (-1, 0) (by omega) (Or.inl (by decide))
    (fun n s h => pk_le 8 8 (fun _ => br_c (fun _ => qv_plan138 (Or.inl rfl) z6 z7 e H) (fun hn => qv_plan138 (Or.inr (h.resolve_left hn)) z6 z7 e H)) (fun z => absurd z (by omega)))
    (fun n i s hi h hw => pk_le 8 i (fun z => absurd z (by omega)) (fun _ => qv_ww _ _ (fun r => nm_e ⟨pk_in i 8 hi, br_c (fun _ => qv_cells _ _ (fun r2 => br_c (fun _ => nm_r (nI_1 i) (hw s h)) (fun _ => br_c (fun _ => nm_r (nI_1 i) (hw s h)) (fun _ => nm_r (nI_1 i) (hw (nI i, _) (Or.inr ⟨i, hi, rfl⟩)))))) (fun _ => nm_r (nI_1 i) (hw s h))⟩)))
theorem qv_plan42 {post : Int32 → St2 → Prop} {x2 : Int32} {a1 a2 a3 a4 a5 a6 a7 a8 a9 : Nat → Int32} (z6 : ∀ j, a6 j = 0) (z7 : ∀ j, a7 j = 0)
    (H : ∀ (r : Int32) (b5 b6 b7 : Nat → Int32), (∀ j, b6 j = 0) → (∀ j, b7 j = 0) → post r (0, a1, a2, a3, a4, b5, b6, b7, a8, a9)) : ∃ n, wX_plan_42 post n x2 1 0 0 a1 a2 a3 a4 a5 a6 a7 a8 a9 :=
  pk_loop (σ := Int32 × Int32 × (Nat → Int32) × (Nat → Int32) × (Nat → Int32)) (fun n i s => wX_plan_42 post n s.1 s.2.1 (nI i) 0 a1 a2 a3 a4 s.2.2.1 s.2.2.2.1 s.2.2.2.2 a8 a9) (fun _ s => (∀ j, s.2.2.2.1 j = 0) ∧ (∀ j, s.2.2.2.2 j = 0)) 8 0 (x2, 1, a5, a6, a7) (by omega) ⟨z6, z7⟩
    (fun n s h => pk_le 8 8 (fun _ => H _ _ _ _ h.1 h.2) (fun z => absurd z (by omega)))
    (fun n i s hi h hw => pk_le 8 i (fun z => absurd z (by omega)) (fun _ => br_c (fun _ => H _ _ _ _ h.1 h.2) (fun _ => qv_ww _ _ (fun r => qv_plan69 h.1 h.2 (nI_1 i) (fun x z b5 b6 b7 h6 h7 => hw (x, z, b5, b6, b7) ⟨h6, h7⟩)))))
theorem qv_plan16 {post : Int32 → St2 → Prop} {x1 : Int32} {a1 a2 a3 a4 a5 a6 a7 a8 a9 : Nat → Int32} (z6 : ∀ j, a6 j = 0) (z7 : ∀ j, a7 j = 0)
    (H : ∀ (r : Int32) (b5 b6 b7 : Nat → Int32), (∀ j, b6 j = 0) → (∀ j, b7 j = 0) → post r (0, a1, a2, a3, a4, b5, b6, b7, a8, a9)) : ∃ n, wX_plan_16 post x1 0 n 0 a1 a2 a3 a4 a5 a6 a7 a8 a9 :=
  pk_loop (σ := Nat → Int32) (fun n i s => wX_plan_16 post x1 0 n (nI i) a1 a2 a3 a4 s a6 a7 a8 a9) (fun _ _ => True) 8 0 a5 (by omega) trivial
    (fun n s _ => pk_le 8 8 (fun _ => qv_plan42 z6 z7 H) (fun z => absurd z (by omega)))
    (fun n i s hi _ hw => pk_le 8 i (fun z => absurd z (by omega)) (fun _ => ⟨pk_in i 8 hi, nm_e (nm_r (nI_1 i) (hw _ trivial))⟩))
theorem qv_plan {post : Int32 → St2 → Prop} {x1 : Int32} {a1 a2 a3 a4 a5 a6 a7 a8 a9 : Nat → Int32} (z6 : ∀ j, a6 j = 0) (z7 : ∀ j, a7 j = 0)
    (H : ∀ (r : Int32) (b5 b6 b7 : Nat → Int32), (∀ j, b6 j = 0) → (∀ j, b7 j = 0) → post r (0, a1, a2, a3, a4, b5, b6, b7, a8, a9)) : wpX_plan post (0, a1, a2, a3, a4, a5, a6, a7, a8, a9) x1 :=
  br_c (fun _ => H _ _ _ _ z6 z7) (fun _ => br_c (fun _ => qv_plan16 z6 z7 H) (fun _ => H _ _ _ _ z6 z7))
end
section
/-! enter and add -/
theorem qv_enter {post : St2 → Prop} {c : Int32} {a1 a2 a3 a4 a5 a6 a7 a8 a9 : Nat → Int32} {p : Nat} {m v : Int32} {C6 C7 : Nat → Nat → Int32} (hp : p < 120) (k6 : qv_K a5 a6 C6) (k7 : qv_K a5 a7 C7)
    (H : ∀ b6 b7 : Nat → Int32, qv_K a5 b6 (qv_A C6 p m) → qv_K a5 b7 (qv_A C7 p v) → post (c, a1, a2, a3, a4, a5, b6, b7, a8, a9)) : wpX_enter post (c, a1, a2, a3, a4, a5, a6, a7, a8, a9) (nI p) m v := by
  refine pk_loop (σ := (Nat → Int32) × (Nat → Int32)) (fun n i s => wX_enter_3 post (nI p) m v c n (nI i) a1 a2 a3 a4 a5 s.1 s.2 a8 a9) (fun i s => qv_K a5 s.1 (qv_AI C6 p m i) ∧ qv_K a5 s.2 (qv_AI C7 p v i)) 8 0 (a6, a7) (by omega) ⟨qv_AI0 k6, qv_AI0 k7⟩
    (fun n s h => pk_le 8 8 (fun _ => H s.1 s.2 (qv_AI8 h.1) (qv_AI8 h.2)) (fun z => absurd z (by omega))) ?_
  intro n i s hi h hw
  have hl : qv_gp p i < 120 := qv_gp_lt hp
  have hb : 120 * i + qv_gp p i < 960 := by omega
  refine pk_le 8 i (fun z => absurd z (by omega)) (fun _ => ⟨pk_in i 8 hi, ?_⟩)
  rw [nI_clamp (show i < 2 ^ 31 by omega)]
  refine br_c (fun hz => nm_r (nI_1 i) (hw s ⟨qv_AIn hz h.1, qv_AIn hz h.2⟩)) (fun hz => qv_group _ hp hi (nm_r (qv_at i _) ?_))
  rw [nI_clamp (show 120 * i + qv_gp p i < 2 ^ 31 by omega)]
  exact ⟨pk_in _ 960 hb, pk_in _ 960 hb, nm_e ⟨pk_in _ 960 hb, pk_in _ 960 hb, nm_e (nm_r (nI_1 i) (hw (_, _) ⟨qv_AIs hp h.1, qv_AIs hp h.2⟩))⟩⟩
theorem qv_add {post : Int32 → St2 → Prop} {n : Nat} {a1 a2 a3 a4 a5 a6 a7 a8 a9 : Nat → Int32} {p : Nat} {a : Int32} {C6 C7 : Nat → Nat → Int32} (hn : n < 40) (hp : p < 120) (ha : ¬ a < (-50)) (hb : a ≤ 50) (k6 : qv_K a5 a6 C6) (k7 : qv_K a5 a7 C7)
    (H : ∀ (r : Int32) (b6 b7 : Nat → Int32), qv_K a5 b6 (qv_A C6 p 1) → qv_K a5 b7 (qv_A C7 p a) → post r (nI (n + 1), upd a1 n (nI p), upd a2 n a, upd a3 p (nI n), upd a4 n (a3 p), a5, b6, b7, a8, a9)) :
    wpX_add post (nI n, a1, a2, a3, a4, a5, a6, a7, a8, a9) (nI p) a := by
  refine br_f (nI_pos (by omega)) (pk_le 120 p (fun z => absurd z (by omega)) (fun _ => br_f ha (br_t hb (pk_eq n 40 (fun z => absurd z (by omega)) (fun _ => ?_)))))
  rw [nI_clamp (show n < 2 ^ 31 by omega), nI_clamp (show p < 2 ^ 31 by omega)]
  exact ⟨pk_in n 40 hn, nm_e ⟨pk_in n 40 hn, nm_e ⟨pk_in p 120 hp, pk_in n 40 hn, nm_e ⟨pk_in p 120 hp, nm_e (nm_r (nI_1 n) (qv_enter hp k6 k7 (fun b6 b7 h6 h7 => H _ b6 b7 h6 h7)))⟩⟩⟩⟩
end
section
/-! smallest and gather -/
/-- an answer of smallest: none, or a kept grouping that covers g -/
def qv_B (a5 : Nat → Int32) (g : Nat) (r : Int32) : Prop := r < 0 ∨ ∃ k : Nat, k < 8 ∧ a5 k ≠ 0 ∧ (nI k &&& nI g) = nI g ∧ r = nI k
theorem qv_smallest {post : Int32 → Prop} {c : Int32} {a1 a2 a3 a4 a5 a6 a7 a8 a9 : Nat → Int32} {g : Nat} (H : ∀ r, qv_B a5 g r → post r) : wpX_smallest post (c, a1, a2, a3, a4, a5, a6, a7, a8, a9) (nI g) := by
  refine pk_loop (fun n i s => wX_smallest_4 post (nI g) c a1 a2 a3 a4 a5 a6 a7 a8 a9 n s (nI i)) (fun _ s => qv_B a5 g s) 8 0 (-1) (by omega) (Or.inl (by decide))
    (fun n s h => pk_le 8 8 (fun _ => H s h) (fun z => absurd z (by omega))) ?_
  intro n i s hi h hw
  refine pk_le 8 i (fun z => absurd z (by omega)) (fun _ => ⟨pk_in i 8 hi, ?_⟩)
  rw [nI_clamp (show i < 2 ^ 31 by omega)]
  exact br_c (fun _ => nm_r (nI_1 i) (hw s h)) (fun hk => br_c
    (fun hm => br_c (fun _ => nm_r (nI_1 i) (hw (nI i) (Or.inr ⟨i, hi, hk, hm, rfl⟩))) (fun _ => qv_cells _ _ (fun r => qv_cells _ _ (fun r2 => br_c (fun _ => nm_r (nI_1 i) (hw s h)) (fun _ => nm_r (nI_1 i) (hw (nI i) (Or.inr ⟨i, hi, hk, hm, rfl⟩)))))))
    (fun _ => nm_r (nI_1 i) (hw s h)))
/-- the facts and the kept cells match the two facts (p, a), (q, b) -/
def qv_G (p q : Nat) (a b : Int32) (a1 a2 a5 a6 a7 : Nat → Int32) : Prop :=
  p < 120 ∧ q < 120 ∧ a1 0 = nI p ∧ a1 1 = nI q ∧ a2 0 = a ∧ a2 1 = b ∧ qv_K a5 a6 (qv_S p q 1 1) ∧ qv_K a5 a7 (qv_S p q a b)
theorem qv_g115 {post : St2 → Prop} {c : Int32} {a1 a2 a3 a4 a5 a6 a7 a8 a9 : Nat → Int32} {p q k g : Nat} {a b x3 : Int32} (hG : qv_G p q a b a1 a2 a5 a6 a7) (hk : k < 8) (hg : g < 8) (hm : (nI k &&& nI g) = nI g) (h5 : a5 k ≠ 0)
    (z8 : ∀ j, j < 120 → a8 j = 0 ∧ a9 j = 0)
    (H : ∀ b8 b9 : Nat → Int32, (∀ j, j < 120 → b8 j = qv_S p q 1 1 g j) → (∀ j, j < 120 → b9 j = qv_S p q a b g j) → post (c, a1, a2, a3, a4, a5, a6, a7, b8, b9)) :
    ∃ n, wX_gather_115 post (nI g) 32767 x3 (nI k) n 0 c a1 a2 a3 a4 a5 a6 a7 a8 a9 := by
  obtain ⟨hp, hq, -, -, -, -, k6, k7⟩ := hG
  have ep : qv_gp (qv_gp p k) g = qv_gp p g := qv_gpgp hp hk hg hm
  have eq : qv_gp (qv_gp q k) g = qv_gp q g := qv_gpgp hq hk hg hm
  refine pk_loop (σ := (Nat → Int32) × (Nat → Int32)) (fun n i s => wX_gather_115 post (nI g) 32767 x3 (nI k) n (nI i) c a1 a2 a3 a4 a5 a6 a7 s.1 s.2)
    (fun i s => (∀ j, j < 120 → s.1 j = qv_T p q 1 1 k g i j) ∧ (∀ j, j < 120 → s.2 j = qv_T p q a b k g i j)) 120 0 (a8, a9) (by omega)
    ⟨fun j hj => (z8 j hj).1.trans qv_T0.symm, fun j hj => (z8 j hj).2.trans qv_T0.symm⟩
    (fun n s h => pk_le 120 120 (fun _ => H s.1 s.2 (fun j hj => (h.1 j hj).trans (qv_TS hp hq)) (fun j hj => (h.2 j hj).trans (qv_TS hp hq))) (fun z => absurd z (by omega))) ?_
  intro n i s hi h hw
  have hl : qv_gp i g < 120 := qv_gp_lt hi
  have hb : 120 * k + i < 960 := by omega
  refine pk_le 120 i (fun z => absurd z (by omega)) (fun _ => ⟨pk_in (120 * k + i) 960 hb (qv_at k i), ?_⟩)
  rw [qv_at k i, nI_clamp (show 120 * k + i < 2 ^ 31 by omega), k6 k hk h5 i hi, k7 k hk h5 i hi]
  refine ek_if qv_pos (fun hn => nm_r (nI_1 i) (hw s ⟨fun j hj => (h.1 j hj).trans (qv_Tn hn.1 hn.2).symm, fun j hj => (h.2 j hj).trans (qv_Tn hn.1 hn.2).symm⟩)) (fun _ => ?_)
  refine qv_passes _ hi (br_f (by decide) (qv_group _ hi hg ⟨pk_in (120 * k + i) 960 hb, pk_in (120 * k + i) 960 hb, qv_note hl (nm_r (nI_1 i) (hw (_, _) ⟨qv_Ts ep eq h.1 hl, qv_Ts ep eq h.2 hl⟩))⟩))
theorem qv_g51s {post : St2 → Prop} {a1 a2 a3 a4 a5 a6 a7 a8 a9 : Nat → Int32} {n i p g : Nat} {a : Int32} (hi : i < 2) (hp : p < 120) (hg : g < 8) (h1 : a1 i = nI p) (h2 : a2 i = a)
    (hw : wX_gather_51 post (nI g) 32767 n (nI (i + 1)) (nI 2) a1 a2 a3 a4 a5 a6 a7 (upd a8 (qv_gp p g) (a8 (qv_gp p g) + 1)) (upd a9 (qv_gp p g) (a9 (qv_gp p g) + a))) :
    wX_gather_51 post (nI g) 32767 (n + 1) (nI i) (nI 2) a1 a2 a3 a4 a5 a6 a7 a8 a9 := by
  refine pk_le 2 i (fun z => absurd z (by omega)) (fun _ => ⟨pk_in i 40 (by omega), ?_⟩)
  rw [nI_clamp (show i < 2 ^ 31 by omega), h1, h2]
  exact qv_passes _ hp (br_f (by decide) ⟨pk_in i 40 (by omega), qv_group _ hp hg ⟨pk_in i 40 (by omega), qv_note (qv_gp_lt hp) (nm_r (nI_1 i) hw)⟩⟩)
theorem qv_2up {s : Nat → Int32} {p q g : Nat} {x y : Int32} (z : ∀ j, j < 120 → s j = 0) (hp : p < 120) : ∀ j, j < 120 → upd (upd s (qv_gp p g) (s (qv_gp p g) + x)) (qv_gp q g) (upd s (qv_gp p g) (s (qv_gp p g) + x) (qv_gp q g) + y) j = qv_S p q x y g j := by
  intro j hj
  have hP : s (qv_gp p g) = 0 := z _ (qv_gp_lt hp)
  unfold qv_S qv_A upd
  rw [hP]
  by_cases e1 : qv_gp p g = j <;> by_cases e2 : qv_gp q g = j
  · rw [if_pos e2.symm, if_pos (by omega), if_pos e1, if_pos e2]
  · rw [if_neg (fun t => e2 t.symm), if_pos e1.symm, if_pos e1, if_neg e2, Int32.add_zero]
  · rw [if_pos e2.symm, if_neg (by omega), if_neg e1, if_pos e2, z _ (by omega)]
    rfl
  · rw [if_neg (fun t => e2 t.symm), if_neg (fun t => e1 t.symm), if_neg e1, if_neg e2, z j hj]
    rfl
theorem qv_g51 {post : St2 → Prop} {a1 a2 a3 a4 a5 a6 a7 a8 a9 : Nat → Int32} {p q g : Nat} {a b : Int32} (hG : qv_G p q a b a1 a2 a5 a6 a7) (hg : g < 8) (z8 : ∀ j, j < 120 → a8 j = 0 ∧ a9 j = 0)
    (H : ∀ b8 b9 : Nat → Int32, (∀ j, j < 120 → b8 j = qv_S p q 1 1 g j) → (∀ j, j < 120 → b9 j = qv_S p q a b g j) → post (nI 2, a1, a2, a3, a4, a5, a6, a7, b8, b9)) :
    ∃ n, wX_gather_51 post (nI g) 32767 n 0 (nI 2) a1 a2 a3 a4 a5 a6 a7 a8 a9 := by
  obtain ⟨hp, hq, h10, h11, h20, h21, -, -⟩ := hG
  refine ⟨0 + 1 + 1 + 1, qv_g51s (i := 0) (by omega) hp hg h10 h20 (qv_g51s (i := 1) (by omega) hq hg h11 h21 ?_)⟩
  exact pk_le 2 2 (fun _ => H _ _ (qv_2up (fun j hj => (z8 j hj).1) hp) (qv_2up (fun j hj => (z8 j hj).2) hp)) (fun z => absurd z (by omega))
theorem qv_or0 : ∀ g, g < 8 → (0 : Int32) ||| nI g = nI g := by decide +kernel
theorem qv_gather {post : St2 → Prop} {a1 a2 a3 a4 a5 a6 a7 a8 a9 : Nat → Int32} {p q g : Nat} {a b : Int32} (hG : qv_G p q a b a1 a2 a5 a6 a7) (hg : g < 8)
    (H : ∀ b8 b9 : Nat → Int32, (∀ j, j < 120 → b8 j = qv_S p q 1 1 g j) → (∀ j, j < 120 → b9 j = qv_S p q a b g j) → post (nI 2, a1, a2, a3, a4, a5, a6, a7, b8, b9)) :
    wpX_gather post (nI 2, a1, a2, a3, a4, a5, a6, a7, a8, a9) (nI g) 32767 := by
  refine pk_loop (σ := (Nat → Int32) × (Nat → Int32)) (fun n i s => wX_gather_2 post (nI g) 32767 (nI 2) n (nI i) a1 a2 a3 a4 a5 a6 a7 s.1 s.2) (fun i s => ∀ j, j < i → s.1 j = 0 ∧ s.2 j = 0) 120 0 (a8, a9) (by omega) (fun j hj => absurd hj (by omega)) ?_ ?_
  · intro n s h
    refine pk_le 120 120 (fun _ => qv_cuts _ (nm_r (qv_or0 g hg) (qv_smallest (fun r hr => br_c (fun h0 => ?_) (fun _ => qv_g51 hG hg h H)))) ) (fun z => absurd z (by omega))
    rcases hr with hr | ⟨k, hk, h5, hm, rfl⟩
    · exact absurd h0 (Int32.not_le.mpr hr)
    · exact qv_g115 hG hk hg hm h5 h H
  · intro n i s hi h hw
    refine pk_le 120 i (fun z => absurd z (by omega)) (fun _ => ?_)
    rw [nI_clamp (show i < 2 ^ 31 by omega)]
    refine ⟨pk_in i 120 hi, nm_e ⟨pk_in i 120 hi, nm_e (nm_r (nI_1 i) (hw (_, _) ?_))⟩⟩
    intro j hj
    by_cases e : j = i
    · rw [e]
      exact ⟨pk_us, pk_us⟩
    · have t := h j (by omega)
      exact ⟨(pk_un e).trans t.1, (pk_un e).trans t.2⟩
end
section
/-! the questions: groups, topSum, atLeast, growth -/
theorem qv_groups {post : Int32 → St2 → Prop} {a1 a2 a3 a4 a5 a6 a7 a8 a9 : Nat → Int32} {p q g : Nat} {a b : Int32} (hG : qv_G p q a b a1 a2 a5 a6 a7) (hg : g < 8)
    (H : ∀ b8 b9 : Nat → Int32, post (nI (qv_n (qv_gp p g) (qv_gp q g) (fun _ => true) 120)) (nI 2, a1, a2, a3, a4, a5, a6, a7, b8, b9)) :
    wpX_groups post (nI 2, a1, a2, a3, a4, a5, a6, a7, a8, a9) (nI g) 32767 := by
  unfold wpX_groups
  dsimp only
  refine qv_badG _ hg (br_t rfl (qv_badF _ (br_t rfl (qv_gather hG hg (fun b8 b9 h8 h9 => ?_)))))
  refine pk_loop (fun n i s => wX_groups_30 post (nI 2) a1 a2 a3 a4 a5 a6 a7 b8 b9 n s (nI i)) (fun i s => s = nI (qv_n (qv_gp p g) (qv_gp q g) (fun _ => true) i)) 120 0 0 (by omega) ?_ ?_ ?_
  · rw [qv_n0]
    rfl
  · intro n s h
    refine pk_le 120 120 (fun _ => ?_) (fun z => absurd z (by omega))
    rw [h]
    exact H b8 b9
  · intro n i s hi h hw
    refine pk_le 120 i (fun z => absurd z (by omega)) (fun _ => ⟨pk_in i 120 hi, ?_⟩)
    rw [nI_clamp (show i < 2 ^ 31 by omega), h8 i hi]
    refine ek_if qv_pos (fun hn => nm_r (nI_1 i) (hw s ?_)) (fun hn => nm_e (nm_r (nI_1 i) (hw (s + 1) ?_)))
    · rw [qv_nn (Or.inl hn)]
      exact h
    · rw [qv_ny (by omega) rfl, h, nI_1]
/-- an answer of top: the first m below i with the greatest sum, or none -/
def qv_M (a8 a9 : Nat → Int32) (i : Nat) (x : Int32) : Prop := ((∀ j, j < i → a8 j ≤ 0) ∧ x = -1) ∨ ∃ m : Nat, m < i ∧ x = nI m ∧ ¬ a8 m ≤ 0 ∧ ∀ j, j < i → ¬ a8 j ≤ 0 → a9 j ≤ a9 m
theorem qv_M_no {a8 a9 : Nat → Int32} {i : Nat} {x : Int32} (h : qv_M a8 a9 i x) (hz : a8 i ≤ 0) : qv_M a8 a9 (i + 1) x := by
  rcases h with ⟨h, e⟩ | ⟨m, hm, e, h1, h2⟩
  · exact Or.inl ⟨lt_s h hz, e⟩
  · exact Or.inr ⟨m, by omega, e, h1, lt_s h2 (fun z => absurd hz z)⟩
theorem qv_M_new {a8 a9 : Nat → Int32} {i : Nat} {x : Int32} (h : qv_M a8 a9 i x) (hx : x < 0) (hi : i < 120) (hz : ¬ a8 i ≤ 0) : qv_M a8 a9 (i + 1) (nI i) := by
  rcases h with ⟨h, e⟩ | ⟨m, hm, e, h1, h2⟩
  · exact Or.inr ⟨i, by omega, rfl, hz, lt_s (fun j hj z => absurd (h j hj) z) (fun _ => Int32.le_refl _)⟩
  · rw [e] at hx
    exact absurd hx (nI_pos (by omega))
theorem qv_M_keep {a8 a9 : Nat → Int32} {i m : Nat} (hm : m < i) (h1 : ¬ a8 m ≤ 0) (h2 : ∀ j, j < i → ¬ a8 j ≤ 0 → a9 j ≤ a9 m) (hl : a9 i ≤ a9 m) : qv_M a8 a9 (i + 1) (nI m) :=
  Or.inr ⟨m, by omega, rfl, h1, lt_s h2 (fun _ => hl)⟩
theorem qv_M_up {a8 a9 : Nat → Int32} {i m : Nat} (h2 : ∀ j, j < i → ¬ a8 j ≤ 0 → a9 j ≤ a9 m) (hz : ¬ a8 i ≤ 0) (hl : ¬ a9 i ≤ a9 m) : qv_M a8 a9 (i + 1) (nI i) :=
  Or.inr ⟨i, by omega, rfl, hz, lt_s (fun j hj z => Int32.le_trans (h2 j hj z) (Int32.le_of_lt (Int32.not_le.mp hl))) (fun _ => Int32.le_refl _)⟩
theorem qv_top {post : Int32 → St2 → Prop} {a1 a2 a3 a4 a5 a6 a7 a8 a9 : Nat → Int32} {p q g : Nat} {a b : Int32} (hG : qv_G p q a b a1 a2 a5 a6 a7) (hg : g < 8)
    (H : ∀ (b8 b9 : Nat → Int32) (r : Int32), (∀ j, j < 120 → b8 j = qv_S p q 1 1 g j) → (∀ j, j < 120 → b9 j = qv_S p q a b g j) → qv_M b8 b9 120 r → post r (nI 2, a1, a2, a3, a4, a5, a6, a7, b8, b9)) :
    wpX_top post (nI 2, a1, a2, a3, a4, a5, a6, a7, a8, a9) (nI g) 32767 := by
  unfold wpX_top
  dsimp only
  refine qv_gather hG hg (fun b8 b9 h8 h9 => ?_)
  refine pk_loop (fun n i s => wX_top_11 post (nI 2) a1 a2 a3 a4 a5 a6 a7 b8 b9 n s (nI i)) (fun i s => qv_M b8 b9 i s) 120 0 (-1) (by omega) (Or.inl ⟨fun j hj => absurd hj (by omega), rfl⟩) ?_ ?_
  · intro n s h
    exact pk_le 120 120 (fun _ => H b8 b9 s h8 h9 h) (fun z => absurd z (by omega))
  · intro n i s hi h hw
    refine pk_le 120 i (fun z => absurd z (by omega)) (fun _ => ⟨pk_in i 120 hi, ?_⟩)
    rw [nI_clamp (show i < 2 ^ 31 by omega)]
    refine br_c (fun hz => nm_r (nI_1 i) (hw s (qv_M_no h hz))) (fun hz => br_c (fun hx => nm_r (nI_1 i) (hw (nI i) (qv_M_new h hx hi hz))) (fun hx => ?_))
    rcases h with ⟨h, e⟩ | ⟨m, hm, e, h1, h2⟩
    · rw [e] at hx
      exact absurd (by decide) hx
    · subst e
      rw [nI_clamp (show m < 2 ^ 31 by omega)]
      exact ⟨pk_in i 120 hi, pk_in m 120 (by omega), br_c (fun hl => nm_r (nI_1 i) (hw (nI m) (qv_M_keep hm h1 h2 hl))) (fun hl => nm_r (nI_1 i) (hw (nI i) (qv_M_up h2 hz hl)))⟩
/-- the greatest sum of the two facts' groups -/
def qv_t (p q g : Nat) (a b : Int32) : Int32 := if qv_gp p g = qv_gp q g then a + b else qv_mx a b
theorem qv_S_same {p q g : Nat} {a b : Int32} (e : qv_gp p g = qv_gp q g) : qv_S p q a b g (qv_gp p g) = a + b := by
  unfold qv_S qv_A
  rw [if_pos rfl, if_pos e.symm, Int32.zero_add]
theorem qv_S_p {p q g : Nat} {a b : Int32} (e : qv_gp p g ≠ qv_gp q g) : qv_S p q a b g (qv_gp p g) = a := by
  unfold qv_S qv_A
  rw [if_pos rfl, if_neg (fun t => e t.symm), Int32.zero_add, Int32.add_zero]
theorem qv_S_q {p q g : Nat} {a b : Int32} (e : qv_gp p g ≠ qv_gp q g) : qv_S p q a b g (qv_gp q g) = b := by
  unfold qv_S qv_A
  rw [if_neg e, if_pos rfl, Int32.zero_add, Int32.zero_add]
theorem qv_top_val {p q g m : Nat} {a b : Int32} {b8 b9 : Nat → Int32} (hp : p < 120) (hq : q < 120) (hm : m < 120) (h8 : ∀ j, j < 120 → b8 j = qv_S p q 1 1 g j) (h9 : ∀ j, j < 120 → b9 j = qv_S p q a b g j)
    (h1 : ¬ b8 m ≤ 0) (h2 : ∀ j, j < 120 → ¬ b8 j ≤ 0 → b9 j ≤ b9 m) : b9 m = qv_t p q g a b := by
  have hP : qv_gp p g < 120 := qv_gp_lt hp
  have hQ : qv_gp q g < 120 := qv_gp_lt hq
  rw [h8 m hm, qv_pos] at h1
  have kP : b9 (qv_gp p g) ≤ b9 m := h2 _ hP (by rw [h8 _ hP, qv_pos]; omega)
  have kQ : b9 (qv_gp q g) ≤ b9 m := h2 _ hQ (by rw [h8 _ hQ, qv_pos]; omega)
  have e1 : m = qv_gp p g ∨ m = qv_gp q g := by omega
  unfold qv_t
  by_cases e : qv_gp p g = qv_gp q g
  · have e2 : m = qv_gp p g := by omega
    rw [if_pos e, h9 m hm, e2]
    exact qv_S_same e
  · rw [if_neg e]
    rw [h9 _ hP, qv_S_p e] at kP
    rw [h9 _ hQ, qv_S_q e] at kQ
    unfold qv_mx
    rcases e1 with e1 | e1
    · have t : b9 m = a := by rw [h9 m hm, e1, qv_S_p e]
      rw [t] at kQ ⊢
      by_cases l : a ≤ b
      · rw [if_pos l]
        exact Int32.le_antisymm l kQ
      · rw [if_neg l]
    · have t : b9 m = b := by rw [h9 m hm, e1, qv_S_q e]
      rw [t] at kP ⊢
      rw [if_pos kP]
theorem qv_topSum {post : Int32 → St2 → Prop} {a1 a2 a3 a4 a5 a6 a7 a8 a9 : Nat → Int32} {p q g : Nat} {a b : Int32} (hG : qv_G p q a b a1 a2 a5 a6 a7) (hg : g < 8)
    (H : ∀ b8 b9 : Nat → Int32, post (qv_t p q g a b) (nI 2, a1, a2, a3, a4, a5, a6, a7, b8, b9)) :
    wpX_topSum post (nI 2, a1, a2, a3, a4, a5, a6, a7, a8, a9) (nI g) 32767 := by
  unfold wpX_topSum
  dsimp only
  refine qv_badG _ hg (br_t rfl (qv_badF _ (br_t rfl (qv_top hG hg (fun b8 b9 r h8 h9 hM => ?_)))))
  have hp := hG.1
  have hq := hG.2.1
  rcases hM with ⟨h, e⟩ | ⟨m, hm, e, h1, h2⟩
  · have hP : qv_gp p g < 120 := qv_gp_lt hp
    have t := h _ hP
    rw [h8 _ hP, qv_pos] at t
    exact absurd rfl t.1
  · subst e
    refine br_t (nI_pos' (by omega)) ⟨pk_in m 120 hm, ?_⟩
    dsimp only
    rw [nI_clamp (show m < 2 ^ 31 by omega), qv_top_val hp hq hm h8 h9 h1 h2]
    exact H b8 b9
theorem qv_atLeast {post : Int32 → St2 → Prop} {a1 a2 a3 a4 a5 a6 a7 a8 a9 : Nat → Int32} {p q g : Nat} {a b x : Int32} (hG : qv_G p q a b a1 a2 a5 a6 a7) (hg : g < 8)
    (H : ∀ b8 b9 : Nat → Int32, post (nI (qv_n (qv_gp p g) (qv_gp q g) (fun j => decide (¬ qv_S p q a b g j < x)) 120)) (nI 2, a1, a2, a3, a4, a5, a6, a7, b8, b9)) :
    wpX_atLeast post (nI 2, a1, a2, a3, a4, a5, a6, a7, a8, a9) (nI g) x := by
  unfold wpX_atLeast
  dsimp only
  refine qv_badG _ hg (br_t rfl (qv_gather hG hg (fun b8 b9 h8 h9 => ?_)))
  refine pk_loop (fun n i s => wX_atLeast_24 post x (nI 2) a1 a2 a3 a4 a5 a6 a7 b8 b9 n s (nI i)) (fun i s => s = nI (qv_n (qv_gp p g) (qv_gp q g) (fun j => decide (¬ qv_S p q a b g j < x)) i)) 120 0 0 (by omega) ?_ ?_ ?_
  · rw [qv_n0]
    rfl
  · intro n s h
    refine pk_le 120 120 (fun _ => ?_) (fun z => absurd z (by omega))
    rw [h]
    exact H b8 b9
  · intro n i s hi h hw
    refine pk_le 120 i (fun z => absurd z (by omega)) (fun _ => ⟨pk_in i 120 hi, ?_⟩)
    rw [nI_clamp (show i < 2 ^ 31 by omega), h8 i hi, h9 i hi]
    refine ek_if qv_pos (fun hn => nm_r (nI_1 i) (hw s ?_)) (fun hn => ⟨pk_in i 120 hi, br_c (fun hl => nm_r (nI_1 i) (hw s ?_)) (fun hl => nm_e (nm_r (nI_1 i) (hw (s + 1) ?_)))⟩)
    · rw [qv_nn (Or.inl hn)]
      exact h
    · rw [qv_nn (Or.inr (decide_eq_false (fun t => t hl)))]
      exact h
    · rw [qv_ny (by omega) (decide_eq_true hl), h, nI_1]
theorem qv_growth {post : Int32 → St2 → Prop} {a1 a2 a3 a4 a5 a6 a7 a8 a9 : Nat → Int32} {p q : Nat} {a b : Int32} (hG : qv_G p q a b a1 a2 a5 a6 a7)
    (H : ∀ b8 b9 : Nat → Int32, post (qv_S p q a b 4 20 - qv_S p q a b 4 0) (nI 2, a1, a2, a3, a4, a5, a6, a7, b8, b9)) :
    wpX_growth post (nI 2, a1, a2, a3, a4, a5, a6, a7, a8, a9) 1 := by
  refine br_f (by decide) (br_t (by decide) (qv_gather (g := 4) hG (by decide) (fun b8 b9 h8 h9 => ?_)))
  refine ⟨pk_in 20 120 (by decide), pk_in 0 120 (by decide), ?_⟩
  have e : b9 ((20 : Int32) * 1).toNatClampNeg - b9 ((20 : Int32) * 1 - 20).toNatClampNeg = qv_S p q a b 4 20 - qv_S p q a b 4 0 := by
    rw [show ((20 : Int32) * 1).toNatClampNeg = 20 by decide, show ((20 : Int32) * 1 - 20).toNatClampNeg = 0 by decide, h9 20 (by decide), h9 0 (by decide)]
  rw [e]
  exact H b8 b9
end
section
/-! greatestAt and greatest -/
/-- the lists of facts: p's fact is 0, q's is 1 -/
def qv_L (p q : Nat) (a b : Int32) (a2 a3 a4 : Nat → Int32) : Prop :=
  p < 120 ∧ q < 120 ∧ a2 0 = a ∧ a2 1 = b ∧ a4 0 = -1 ∧ a4 1 = (if p = q then 0 else -1) ∧ ¬ a < (-50) ∧ ¬ b < (-50) ∧ ∀ j, j < 120 → a3 j = if j = q then 1 else if j = p then 0 else -1
theorem qv_gaE {post : Int32 → Prop} {n j : Nat} {x2 x3 c : Int32} {a1 a2 a3 a4 a5 a6 a7 a8 a9 : Nat → Int32} (hj : j < 40) (hx : x3 < 0) (H : post x2) : wX_greatestAt_13 post c a1 a2 a3 a4 a5 a6 a7 a8 a9 (n + 1) x2 x3 (nI j) :=
  pk_le 40 j (fun z => absurd z (by omega)) (fun _ => br_t hx H)
theorem qv_gaS {post : Int32 → Prop} {n j k : Nat} {x2 y y3 c : Int32} {a1 a2 a3 a4 a5 a6 a7 a8 a9 : Nat → Int32} (hj : j < 40) (hk : k < 40) (hy : (if a2 k ≤ x2 then x2 else a2 k) = y) (h4 : a4 k = y3)
    (H : wX_greatestAt_13 post c a1 a2 a3 a4 a5 a6 a7 a8 a9 n y y3 (nI (j + 1))) : wX_greatestAt_13 post c a1 a2 a3 a4 a5 a6 a7 a8 a9 (n + 1) x2 (nI k) (nI j) := by
  refine pk_le 40 j (fun z => absurd z (by omega)) (fun _ => br_f (nI_pos (by omega)) ⟨pk_in k 40 hk, ?_⟩)
  unfold wX_greatestAt_44
  rw [nI_clamp (show k < 2 ^ 31 by omega)]
  refine br_c (fun h => ⟨pk_in k 40 hk, nm_r h4 (nm_r (nI_1 j) ?_)⟩) (fun h => ⟨pk_in k 40 hk, pk_in k 40 hk, nm_r h4 (nm_r (nI_1 j) ?_)⟩)
  · rw [if_pos h] at hy
    rw [hy]
    exact H
  · rw [if_neg h] at hy
    rw [hy]
    exact H
theorem qv_low {a : Int32} (h : ¬ a < (-50)) : ¬ a ≤ (-4000000) := by
  intro t
  exact h (Int32.lt_of_le_of_lt t (by decide))
/-- what greatestAt answers at c, one of p, q -/
def qv_V (p q : Nat) (a b : Int32) (c : Nat) : Int32 := if c = q then (if p = q then qv_mx a b else b) else a
theorem qv_ga {post : Int32 → Prop} {p q j : Nat} {a b c : Int32} {a1 a2 a3 a4 a5 a6 a7 a8 a9 : Nat → Int32} (hL : qv_L p q a b a2 a3 a4) (hj : j < 120) (hpq : j = p ∨ j = q) (H : post (qv_V p q a b j)) :
    wpX_greatestAt post (c, a1, a2, a3, a4, a5, a6, a7, a8, a9) (nI j) := by
  obtain ⟨hp, hq, h20, h21, h40, h41, ha, hb, h3⟩ := hL
  refine ⟨pk_in j 120 hj, ?_⟩
  rw [nI_clamp (show j < 2 ^ 31 by omega), h3 j hj]
  unfold qv_V at H
  by_cases e1 : j = q
  · rw [if_pos e1] at H
    rw [if_pos e1]
    by_cases e2 : p = q
    · rw [if_pos e2] at H h41
      exact nm_e ⟨0 + 1 + 1 + 1, qv_gaS (k := 1) (j := 0) (y := b) (y3 := nI 0) (by decide) (by decide) (by rw [h21, if_neg (qv_low hb)]) h41
        (qv_gaS (k := 0) (y := qv_mx a b) (y3 := -1) (by decide) (by decide) (by rw [h20]; rfl) h40 (qv_gaE (by decide) (by decide) H))⟩
    · rw [if_neg e2] at H h41
      exact nm_e ⟨0 + 1 + 1, qv_gaS (k := 1) (j := 0) (y := b) (y3 := -1) (by decide) (by decide) (by rw [h21, if_neg (qv_low hb)]) h41 (qv_gaE (by decide) (by decide) H)⟩
  · rw [if_neg e1] at H
    rw [if_neg e1, if_pos (hpq.resolve_right e1)]
    exact nm_e ⟨0 + 1 + 1, qv_gaS (k := 0) (j := 0) (y := a) (y3 := -1) (by decide) (by decide) (by rw [h20, if_neg (qv_low ha)]) h40 (qv_gaE (by decide) (by decide) H)⟩
/-- the greatest of the facts below i -/
def qv_W (p q : Nat) (a b : Int32) (i : Nat) : Int32 := if p < i then (if q < i then qv_mx a b else a) else if q < i then b else -4000000
theorem qv_Wn {p q i : Nat} {a b : Int32} (h1 : i ≠ p) (h2 : i ≠ q) : qv_W p q a b (i + 1) = qv_W p q a b i := by
  have e1 : (p < i + 1) = (p < i) := propext ⟨fun _ => by omega, fun _ => by omega⟩
  have e2 : (q < i + 1) = (q < i) := propext ⟨fun _ => by omega, fun _ => by omega⟩
  unfold qv_W
  simp only [e1, e2]
theorem qv_mxL {a b : Int32} (ha : ¬ a < (-50)) (hb : ¬ b < (-50)) : ¬ qv_mx a b ≤ (-4000000) := by
  unfold qv_mx
  split
  · exact qv_low hb
  · exact qv_low ha
theorem qv_Ws {p q i : Nat} {a b : Int32} (ha : ¬ a < (-50)) (hb : ¬ b < (-50)) (h : i = p ∨ i = q) : (if qv_V p q a b i ≤ qv_W p q a b i then qv_W p q a b i else qv_V p q a b i) = qv_W p q a b (i + 1) := by
  unfold qv_V qv_W
  by_cases e1 : i = q
  · subst e1
    rw [if_pos rfl, if_neg (show ¬ i < i by omega), if_neg (show ¬ i < i by omega), if_pos (show i < i + 1 by omega), if_pos (show i < i + 1 by omega)]
    by_cases e2 : p = i
    · subst e2
      rw [if_pos rfl, if_neg (show ¬ p < p by omega), if_pos (show p < p + 1 by omega), if_neg (qv_mxL ha hb)]
    · rw [if_neg e2]
      by_cases e3 : p < i
      · rw [if_pos e3, if_pos (show p < i + 1 by omega)]
        unfold qv_mx
        by_cases l : b ≤ a
        · rw [if_pos l]
          by_cases l2 : a ≤ b
          · rw [if_pos l2]
            exact Int32.le_antisymm l2 l
          · rw [if_neg l2]
        · rw [if_neg l, if_pos (Int32.le_of_lt (Int32.not_le.mp l))]
      · rw [if_neg e3, if_neg (show ¬ p < i + 1 by omega), if_neg (qv_low hb)]
  · have e2 : i = p := h.resolve_right e1
    subst e2
    rw [if_neg e1, if_neg (show ¬ i < i by omega), if_pos (show i < i + 1 by omega)]
    by_cases e3 : q < i
    · rw [if_pos e3, if_pos (show q < i + 1 by omega)]
      rfl
    · rw [if_neg e3, if_neg (show ¬ q < i + 1 by omega), if_neg (qv_low ha)]
theorem qv_greatest {post : Int32 → Prop} {p q : Nat} {a b c : Int32} {a1 a2 a3 a4 a5 a6 a7 a8 a9 : Nat → Int32} (hL : qv_L p q a b a2 a3 a4) (H : post (qv_mx a b)) :
    wpX_greatest post (c, a1, a2, a3, a4, a5, a6, a7, a8, a9) 32767 := by
  have hL' := hL
  obtain ⟨hp, hq, h20, h21, h40, h41, ha, hb, h3⟩ := hL'
  unfold wpX_greatest
  dsimp only
  refine qv_badF _ (br_t rfl ?_)
  refine pk_loop (fun n i s => wX_greatest_16 post 32767 c a1 a2 a3 a4 a5 a6 a7 a8 a9 n s (nI i)) (fun i s => s = qv_W p q a b i) 120 0 (-4000000) (by omega) ?_ ?_ ?_
  · unfold qv_W
    rw [if_neg (by omega), if_neg (by omega)]
  · intro n s h
    refine pk_le 120 120 (fun _ => ?_) (fun z => absurd z (by omega))
    rw [h]
    unfold qv_W
    rw [if_pos hp, if_pos hq]
    exact H
  · intro n i s hi h hw
    refine pk_le 120 i (fun z => absurd z (by omega)) (fun _ => ⟨pk_in i 120 hi, ?_⟩)
    rw [nI_clamp (show i < 2 ^ 31 by omega), h3 i hi]
    by_cases e : i = p ∨ i = q
    · have hne : ¬ (if i = q then (1 : Int32) else if i = p then 0 else -1) < 0 := by
        by_cases e1 : i = q
        · rw [if_pos e1]
          decide
        · rw [if_neg e1, if_pos (e.resolve_right e1)]
          decide
      refine br_f hne (qv_passes _ hi (br_f (by decide) (qv_ga hL hi e ?_)))
      have t := qv_Ws (a := a) (b := b) ha hb e
      rw [← h] at t
      refine br_c (fun hl => nm_r (nI_1 i) (hw s ?_)) (fun hl => nm_r (nI_1 i) (hw _ ?_))
      · rw [if_pos hl] at t
        exact t
      · rw [if_neg hl] at t
        exact t
    · have h1 : i ≠ p := fun t => e (Or.inl t)
      have h2 : i ≠ q := fun t => e (Or.inr t)
      rw [if_neg h2, if_neg h1]
      refine br_t (by decide) (nm_r (nI_1 i) (hw s ?_))
      rw [qv_Wn h1 h2]
      exact h
end
section
/-! init, the law -/
theorem qv_init {post : St2 → Prop} {mc ms : Nat} (hc : 9 ≤ mc) (hs : 2408 ≤ ms)
    (H : ∀ a3 : Nat → Int32, (∀ j, j < 120 → a3 j = -1) → post (0, (fun _ => 0), (fun _ => 0), a3, (fun _ => 0), (fun _ => 0), (fun _ => 0), (fun _ => 0), (fun _ => 0), (fun _ => 0))) : wpX_init post mc ms 0 := by
  refine ⟨by omega, by omega, by omega, by omega, by omega, by omega, by omega, by omega, by omega, by omega, by omega, by omega, by omega, by omega, by omega, by omega, by omega, by omega, ?_⟩
  refine pk_loop (fun n i s => wX_init_80 post mc ms 9 2408 0 n (nI i) (fun _ => 0) (fun _ => 0) s (fun _ => 0) (fun _ => 0) (fun _ => 0) (fun _ => 0) (fun _ => 0) (fun _ => 0)) (fun i s => ∀ j, j < i → s j = -1) 120 0 (fun _ => 0) (by omega) (fun j hj => absurd hj (by omega))
    (fun n s h => pk_le 120 120 (fun _ => H s h) (fun z => absurd z (by omega))) ?_
  intro n i s hi h hw
  refine pk_le 120 i (fun z => absurd z (by omega)) (fun _ => ⟨pk_in i 120 hi, ?_⟩)
  rw [nI_clamp (show i < 2 ^ 31 by omega)]
  refine nm_e (nm_r (nI_1 i) (hw _ (lt_s (fun j hj => ?_) pk_us)))
  exact (pk_un (show j ≠ i by omega)).trans (h j hj)
/-- what a fact at p adds to growth(1) -/
def qv_f (p : Nat) (a : Int32) : Int32 := if p / 20 = 1 then a else if p / 20 = 0 then -a else 0
theorem qv_gp4 (p : Nat) : qv_gp p 4 = 20 * (p / 20) := by
  unfold qv_gp
  rw [if_pos (by decide), if_pos (by decide), if_neg (by decide)]
  omega
theorem qv_ga1 (u v : Int32) : (0 + u + v) - (0 + 0 + 0) = u + v := by grind
theorem qv_grow {p q : Nat} {a b : Int32} : qv_S p q a b 4 20 - qv_S p q a b 4 0 = qv_f p a + qv_f q b := by
  have e20 : ∀ p : Nat, (qv_gp p 4 = 20) = (p / 20 = 1) := fun p => by rw [qv_gp4]; exact propext ⟨fun _ => by omega, fun _ => by omega⟩
  have e0 : ∀ p : Nat, (qv_gp p 4 = 0) = (p / 20 = 0) := fun p => by rw [qv_gp4]; exact propext ⟨fun _ => by omega, fun _ => by omega⟩
  unfold qv_S qv_A qv_f
  simp only [e20, e0]
  by_cases h1 : p / 20 = 1
  · rw [if_pos h1, if_neg (show ¬ p / 20 = 0 by omega), if_pos h1]
    by_cases h2 : q / 20 = 1
    · rw [if_pos h2, if_neg (show ¬ q / 20 = 0 by omega), if_pos h2]
      grind
    · rw [if_neg h2, if_neg h2]
      by_cases h3 : q / 20 = 0
      · rw [if_pos h3, if_pos h3]
        grind
      · rw [if_neg h3, if_neg h3]
        grind
  · rw [if_neg h1, if_neg h1]
    by_cases h4 : p / 20 = 0
    · rw [if_pos h4, if_pos h4]
      by_cases h2 : q / 20 = 1
      · rw [if_pos h2, if_neg (show ¬ q / 20 = 0 by omega), if_pos h2]
        grind
      · rw [if_neg h2, if_neg h2]
        by_cases h3 : q / 20 = 0
        · rw [if_pos h3, if_pos h3]
          grind
        · rw [if_neg h3, if_neg h3]
          grind
    · rw [if_neg h4, if_neg h4]
      by_cases h2 : q / 20 = 1
      · rw [if_pos h2, if_neg (show ¬ q / 20 = 0 by omega), if_pos h2]
        grind
      · rw [if_neg h2, if_neg h2]
        by_cases h3 : q / 20 = 0
        · rw [if_pos h3, if_pos h3]
          grind
        · rw [if_neg h3, if_neg h3]
          grind
/-- an amount: between -50 and 50 -/
def qv_am (a : Int32) : Prop := -50 ≤ a.toInt ∧ a.toInt ≤ 50
theorem qv_am_of (j : Nat) : qv_am (nI (j % 101) - 50) := by
  have e : (nI (j % 101) - nI 50).toInt = ((j % 101 : Nat) : Int) - (50 : Nat) := pk_sub_toInt (by omega) (by omega)
  have e' : (nI (j % 101) - 50).toInt = ((j % 101 : Nat) : Int) - (50 : Nat) := e
  unfold qv_am
  rw [e']
  omega
theorem qv_am_lo {a : Int32} (h : qv_am a) : ¬ a < (-50) := by
  intro t
  have t' := Int32.lt_iff_toInt_lt.mp t
  rw [show (-50 : Int32).toInt = -50 by decide] at t'
  have := h.1
  omega
theorem qv_am_hi {a : Int32} (h : qv_am a) : a ≤ 50 := by
  apply Int32.le_iff_toInt_le.mpr
  rw [show (50 : Int32).toInt = 50 by decide]
  exact h.2
theorem qv_add_lt {a b : Int32} (ha : qv_am a) (hb : qv_am b) : a + b < a ↔ b < 0 := by
  have e : (a + b).toInt = a.toInt + b.toInt := by
    rw [Int32.toInt_add]
    apply Int.bmod_eq_of_le_mul_two
    · have := ha.1; have := hb.1; omega
    · have := ha.2; have := hb.2; omega
  rw [Int32.lt_iff_toInt_lt, Int32.lt_iff_toInt_lt, e, show (0 : Int32).toInt = 0 by decide]
  omega
theorem qv_many_same {p q g : Nat} {a b : Int32} (hp : p < 120) (hq : q < 120) (ha : qv_am a) (hb : qv_am b) (e : qv_gp p g = qv_gp q g) :
    nI (qv_n (qv_gp p g) (qv_gp q g) (fun j => decide (¬ qv_S p q a b g j < a)) 120) = if b < 0 then 0 else 1 := by
  rw [qv_n_end (qv_gp_lt hp) (qv_gp_lt hq), if_neg (c := qv_gp p g ≠ qv_gp q g ∧ _) (fun t => t.1 e)]
  simp only [qv_S_same e, qv_add_lt ha hb]
  by_cases h : b < 0
  · rw [if_pos h, if_neg (by rw [decide_eq_true_iff]; exact fun t => t h)]
    rfl
  · rw [if_neg h, if_pos (by rw [decide_eq_true_iff]; exact h)]
    rfl
theorem qv_many_diff {p q g : Nat} {a b : Int32} (hp : p < 120) (hq : q < 120) (e : qv_gp p g ≠ qv_gp q g) :
    nI (qv_n (qv_gp p g) (qv_gp q g) (fun j => decide (¬ qv_S p q a b g j < a)) 120) = if b < a then 1 else 2 := by
  rw [qv_n_end (qv_gp_lt hp) (qv_gp_lt hq)]
  simp only [qv_S_p e, qv_S_q e]
  rw [if_pos (by rw [decide_eq_true_iff]; exact Int32.lt_irrefl)]
  by_cases h : b < a
  · rw [if_pos h, if_neg (by rw [decide_eq_true_iff]; exact fun t => t.2 h)]
    rfl
  · rw [if_neg h, if_pos (by rw [decide_eq_true_iff]; exact ⟨e, h⟩)]
    rfl
theorem qv_358 {post : Int32 → St0 → Prop} {mc ms kc ks : Nat} {x13 x16 x17 z0 z1 : Int32} (h : z1 = z0) (h13 : x13 = x16 + x17) (H : post 1 ()) : wL_lawOf_358 post mc ms x13 x16 x17 z0 z1 kc ks :=
  br_t h (br_t h13 H)
/-- what is asked of the five answers -/
def qv_OK (p q g : Nat) (a b x9 x10 x11 x12 x13 : Int32) : Prop :=
  x9 = (if qv_gp p g = qv_gp q g then 1 else 2) ∧ x10 = qv_t p q g a b ∧ x11 = qv_mx a b ∧ x12 = (if qv_gp p g = qv_gp q g then (if b < 0 then 0 else 1) else (if b < a then 1 else 2)) ∧ x13 = qv_f p a + qv_f q b
theorem qv_282 {post : Int32 → St0 → Prop} {mc ms kc ks p q g : Nat} {a b x9 x10 x11 x12 x13 x14 : Int32} (hO : qv_OK p q g a b x9 x10 x11 x12 x13) (h14 : x14 = if qv_gp p g = qv_gp q g then 1 else 0) (H : post 1 ()) :
    wL_lawOf_282 post mc ms a b x9 x10 x11 x12 x13 x14 (qv_mx a b) (qv_f p a) (qv_f q b) kc ks := by
  obtain ⟨h9, h10, h11, h12, h13⟩ := hO
  unfold qv_t at h10
  by_cases e : qv_gp p g = qv_gp q g
  · rw [if_pos e] at h9 h10 h12 h14
    subst h14
    refine br_f (by decide) (br_t h9 (br_f (by decide) (br_t h10 (br_t h11 (br_f (by decide) (br_c (fun l => qv_358 ?_ h13 H) (fun l => qv_358 ?_ h13 H)))))))
    · rw [if_pos l] at h12
      exact h12
    · rw [if_neg l] at h12
      exact h12
  · rw [if_neg e] at h9 h10 h12 h14
    subst h14
    refine br_t rfl (br_t h9 (br_t rfl (br_t h10 (br_t h11 (br_t rfl (br_c (fun l => qv_358 ?_ h13 H) (fun l => qv_358 ?_ h13 H)))))))
    · rw [if_pos l] at h12
      exact h12
    · rw [if_neg l] at h12
      exact h12
theorem qv_251 {post : Int32 → St0 → Prop} {mc ms kc ks p q g : Nat} {a b x9 x10 x11 x12 x13 x14 : Int32} (hq : q < 120) (hO : qv_OK p q g a b x9 x10 x11 x12 x13) (h14 : x14 = if qv_gp p g = qv_gp q g then 1 else 0) (H : post 1 ()) :
    wL_lawOf_251 post mc ms (nI q) a b x9 x10 x11 x12 x13 x14 (qv_mx a b) (qv_f p a) kc ks := by
  have t := qv_282 (mc := mc) (ms := ms) (kc := kc) (ks := ks) hO h14 H
  unfold wL_lawOf_251
  rw [qv_d20 hq]
  refine ⟨by decide, pk_eq (q / 20) 1 (fun h => ?_) (fun h => ⟨by decide, pk_eq (q / 20) 0 (fun h2 => ?_) (fun h2 => ?_)⟩)⟩
  · rw [show qv_f q b = b by unfold qv_f; rw [if_pos h]] at t
    exact t
  · rw [show qv_f q b = -b by unfold qv_f; rw [if_neg h, if_pos h2]] at t
    exact t
  · rw [show qv_f q b = 0 by unfold qv_f; rw [if_neg h, if_neg h2]] at t
    exact t
theorem qv_220 {post : Int32 → St0 → Prop} {mc ms kc ks p q g : Nat} {a b x9 x10 x11 x12 x13 x14 : Int32} (hp : p < 120) (hq : q < 120) (hO : qv_OK p q g a b x9 x10 x11 x12 x13) (h14 : x14 = if qv_gp p g = qv_gp q g then 1 else 0) (H : post 1 ()) :
    wL_lawOf_220 post mc ms (nI p) (nI q) a b x9 x10 x11 x12 x13 x14 (qv_mx a b) kc ks := by
  have t := qv_251 (mc := mc) (ms := ms) (kc := kc) (ks := ks) hq hO h14 H
  unfold wL_lawOf_220
  rw [qv_d20 hp]
  refine ⟨by decide, pk_eq (p / 20) 1 (fun h => ?_) (fun h => ⟨by decide, pk_eq (p / 20) 0 (fun h2 => ?_) (fun h2 => ?_)⟩)⟩
  · rw [show qv_f p a = a by unfold qv_f; rw [if_pos h]] at t
    exact t
  · rw [show qv_f p a = -a by unfold qv_f; rw [if_neg h, if_pos h2]] at t
    exact t
  · rw [show qv_f p a = 0 by unfold qv_f; rw [if_neg h, if_neg h2]] at t
    exact t
theorem qv_204 {post : Int32 → St0 → Prop} {mc ms kc ks p q g : Nat} {a b x9 x10 x11 x12 x13 x14 : Int32} (hp : p < 120) (hq : q < 120) (hO : qv_OK p q g a b x9 x10 x11 x12 x13) (h14 : x14 = if qv_gp p g = qv_gp q g then 1 else 0) (H : post 1 ()) :
    wL_lawOf_204 post mc ms (nI p) (nI q) a b x9 x10 x11 x12 x13 x14 kc ks := by
  have t := qv_220 (mc := mc) (ms := ms) (kc := kc) (ks := ks) hp hq hO h14 H
  refine br_c (fun l => ?_) (fun l => ?_)
  · rw [show qv_mx a b = b by unfold qv_mx; rw [if_pos l]] at t
    exact t
  · rw [show qv_mx a b = a by unfold qv_mx; rw [if_neg l]] at t
    exact t
theorem qv_203 {post : Int32 → St0 → Prop} {mc ms kc ks p q g : Nat} {a b x9 x10 x11 x12 x13 : Int32} (hp : p < 120) (hq : q < 120) (hO : qv_OK p q g a b x9 x10 x11 x12 x13) (hd : ¬ qv_gp p g = qv_gp q g) (H : post 1 ()) :
    wL_lawOf_203 post mc ms (nI p) (nI q) a b x9 x10 x11 x12 x13 kc ks :=
  qv_204 hp hq hO (by rw [if_neg hd]) H
theorem qv_199 {post : Int32 → St0 → Prop} {mc ms kc ks p q g : Nat} {a b x9 x10 x11 x12 x13 : Int32} (hp : p < 120) (hq : q < 120) (hO : qv_OK p q g a b x9 x10 x11 x12 x13) (hd : qv_gp p g = qv_gp q g) (H : post 1 ()) :
    wL_lawOf_199 post mc ms (nI p) (nI q) a b x9 x10 x11 x12 x13 kc ks :=
  qv_204 hp hq hO (by rw [if_pos hd]) H
theorem qv_179 {post : Int32 → St0 → Prop} {mc ms kc ks p q g : Nat} {a b x9 x10 x11 x12 x13 : Int32} (hp : p < 120) (hq : q < 120) (hg : g < 8) (hO : qv_OK p q g a b x9 x10 x11 x12 x13)
    (h1 : g % 2 = 0 ∨ p % 4 = q % 4) (h2 : g / 2 % 2 = 0 ∨ p / 4 % 5 = q / 4 % 5) (H : post 1 ()) :
    wL_lawOf_179 post mc ms (nI p) (nI q) a b (nI g) x9 x10 x11 x12 x13 kc ks := by
  unfold wL_lawOf_179
  rw [qv_d20 hp, qv_d20 hq]
  refine ek_if (qv_m4 g hg) (fun h => qv_199 hp hq hO ((qv_same hp hq).mpr ⟨h1, h2, Or.inl h⟩) H) (fun h => ⟨by decide, by decide, pk_eq (p / 20) (q / 20) (fun z => qv_199 hp hq hO ((qv_same hp hq).mpr ⟨h1, h2, Or.inr z⟩) H) (fun z => qv_203 hp hq hO (fun t => ?_) H)⟩)
  exact ((qv_same hp hq).mp t).2.2.elim h z
theorem qv_157 {post : Int32 → St0 → Prop} {mc ms kc ks p q g : Nat} {a b x9 x10 x11 x12 x13 : Int32} (hp : p < 120) (hq : q < 120) (hg : g < 8) (hO : qv_OK p q g a b x9 x10 x11 x12 x13)
    (h1 : g % 2 = 0 ∨ p % 4 = q % 4) (H : post 1 ()) :
    wL_lawOf_157 post mc ms (nI p) (nI q) a b (nI g) x9 x10 x11 x12 x13 kc ks := by
  unfold wL_lawOf_157
  rw [qv_r5 hp, qv_r5 hq]
  refine ek_if (qv_m2 g hg) (fun h => qv_179 hp hq hg hO h1 (Or.inl h) H) (fun h => ⟨by decide, by decide, by decide, by decide, pk_eq (p / 4 % 5) (q / 4 % 5) (fun z => qv_179 hp hq hg hO h1 (Or.inr z) H) (fun z => qv_203 hp hq hO (fun t => ?_) H)⟩)
  exact ((qv_same hp hq).mp t).2.1.elim h z
end
section
/-! the law's entry -/
theorem qv_cell_p (x : Int32) : ∃ p : Nat, p < 120 ∧ (x &&& 127) - (x &&& 127) / 120 * 120 = nI p := by
  obtain ⟨j, hj, e⟩ := pk_andE x (m := 127) 7 (by decide)
  refine ⟨j % 120, by omega, ?_⟩
  rw [e]
  exact pk_rem (d := 120) (by omega) (by decide) (by decide)
theorem qv_cell_a (x : Int32) : ∃ a : Int32, qv_am a ∧ (((x >>> ((7 : Int32) &&& 31)) &&& 127) - ((x >>> ((7 : Int32) &&& 31)) &&& 127) / 101 * 101) - 50 = a := by
  obtain ⟨j, hj, e⟩ := pk_andE (x >>> ((7 : Int32) &&& 31)) (m := 127) 7 (by decide)
  refine ⟨nI (j % 101) - 50, qv_am_of j, ?_⟩
  rw [e, show nI j - nI j / 101 * 101 = nI (j % 101) from pk_rem (d := 101) (by omega) (by decide) (by decide)]
theorem qv_many_groups {p q g : Nat} (hp : p < 120) (hq : q < 120) : nI (qv_n (qv_gp p g) (qv_gp q g) (fun _ => true) 120) = if qv_gp p g = qv_gp q g then 1 else 2 := by
  rw [qv_n_end (qv_gp_lt hp) (qv_gp_lt hq), if_pos rfl]
  by_cases e : qv_gp p g = qv_gp q g
  · rw [if_pos e, if_neg (fun t => t.1 e)]
    rfl
  · rw [if_neg e, if_pos ⟨e, rfl⟩]
    rfl
theorem qv_lawOf {post : Int32 → St0 → Prop} {mc ms : Nat} (x y z : Int32) (hc : 10 ≤ mc) (hs : 2418 ≤ ms) (H : post 1 ()) : wpL_lawOf post mc ms () x y z := by
  obtain ⟨p, hp, ep⟩ := qv_cell_p x
  obtain ⟨q, hq, eq⟩ := qv_cell_p y
  obtain ⟨a, ha, ea⟩ := qv_cell_a x
  obtain ⟨b, hb, eb⟩ := qv_cell_a y
  obtain ⟨g, hg, eg⟩ := pk_andE z (m := 7) 3 (by decide)
  have hg : g < 8 := hg
  refine ⟨by omega, by omega, 9, 2408, by omega, by omega, qv_init (by omega) (by omega) (fun a3 h3 => ?_)⟩
  refine ⟨by decide, nm_r ep ⟨by decide, nm_r eq ⟨by decide, nm_r ea ⟨by decide, nm_r eb (nm_r eg ?_)⟩⟩⟩⟩
  refine qv_plan (fun _ => rfl) (fun _ => rfl) (fun r0 b5 b6 b7 z6 z7 => ?_)
  refine qv_add (n := 0) (by decide) hp (qv_am_lo ha) (qv_am_hi ha) (qv_K0 z6) (qv_K0 z7) (fun r1 c6 c7 k6 k7 => ?_)
  refine qv_add (n := 1) (by decide) hq (qv_am_lo hb) (qv_am_hi hb) k6 k7 (fun r2 d6 d7 l6 l7 => ?_)
  have hG : qv_G p q a b (upd (upd (fun _ => 0) 0 (nI p)) 1 (nI q)) (upd (upd (fun _ => 0) 0 a) 1 b) b5 d6 d7 :=
    ⟨hp, hq, (pk_un (by decide)).trans pk_us, pk_us, (pk_un (by decide)).trans pk_us, pk_us, l6, l7⟩
  have hL : qv_L p q a b (upd (upd (fun _ => 0) 0 a) 1 b) (upd (upd a3 p (nI 0)) q (nI 1)) (upd (upd (fun _ => 0) 0 (a3 p)) 1 (upd a3 p (nI 0) q)) := by
    refine ⟨hp, hq, (pk_un (by decide)).trans pk_us, pk_us, (pk_un (by decide)).trans (pk_us.trans (h3 p hp)), pk_us.trans ?_, qv_am_lo ha, qv_am_lo hb, fun j hj => ?_⟩
    · by_cases e : p = q
      · rw [if_pos e, e, pk_us]
        rfl
      · rw [if_neg e, pk_un (fun t => e t.symm), h3 q hq]
    · by_cases e : j = q
      · rw [if_pos e, e, pk_us]
        rfl
      · rw [if_neg e, pk_un e]
        by_cases e2 : j = p
        · rw [if_pos e2, e2, pk_us]
          rfl
        · rw [if_neg e2, pk_un e2, h3 j hj]
  refine qv_groups hG hg (fun b8 b9 => qv_topSum hG hg (fun c8 c9 => qv_greatest hL (qv_atLeast hG hg (fun d8 d9 => qv_growth hG (fun e8 e9 => ?_)))))
  have hO : qv_OK p q g a b (nI (qv_n (qv_gp p g) (qv_gp q g) (fun _ => true) 120)) (qv_t p q g a b) (qv_mx a b) (nI (qv_n (qv_gp p g) (qv_gp q g) (fun j => decide (¬ qv_S p q a b g j < a)) 120)) (qv_S p q a b 4 20 - qv_S p q a b 4 0) := by
    refine ⟨qv_many_groups hp hq, rfl, rfl, ?_, qv_grow⟩
    by_cases e : qv_gp p g = qv_gp q g
    · rw [if_pos e]
      exact qv_many_same hp hq ha hb e
    · rw [if_neg e]
      exact qv_many_diff hp hq e
  refine ek_if (qv_m1 g hg) (fun h => qv_157 hp hq hg hO (Or.inl h) H) (fun h => ⟨by decide, by decide, ?_⟩)
  rw [qv_r4 hp, qv_r4 hq]
  exact pk_eq (p % 4) (q % 4) (fun z => qv_157 hp hq hg hO (Or.inr z) H) (fun z => qv_203 hp hq hO (fun t => ((qv_same hp hq).mp t).1.elim h z) H)
theorem qv_cell {post : Int32 → Prop} {L : Nat} {xs : Nat → Int32} (i : Nat) (hi : i < 3) (hL : L ≤ 3) (H : ∀ x, post x) : wpL_cellAt post L xs () (nI i) :=
  pk_le L i (fun _ => H _) (fun z => ⟨pk_in i L z, H _⟩)
theorem i_vc (xs : Nat → Int32) (L : Nat) (hL : L ≤ 3) : wpL_law (fun r => r = 1) L xs :=
  qv_cell 0 (by omega) hL (fun x => qv_cell 1 (by omega) hL (fun y => qv_cell 2 (by omega) hL (fun z => ⟨1226, 19616, by omega, by omega, qv_lawOf x y z (by omega) (by omega) rfl⟩)))
end
