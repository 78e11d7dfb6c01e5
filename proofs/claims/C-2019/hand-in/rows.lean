section
/-- an event: time, process, value, life -/
abbrev tw_Ev : Type := Int32 × Int32 × Int32 × Int32
def tw_t (e : tw_Ev) : Int := e.1.toInt
def tw_v (e : tw_Ev) : Int := e.2.2.1.toInt
def tw_l (e : tw_Ev) : Int := e.2.2.2.toInt
def tw_kl (a b : tw_Ev) : Prop := tw_t a < tw_t b ∨ (tw_t a = tw_t b ∧ (tw_v a < tw_v b ∨ (tw_v a = tw_v b ∧ tw_l a < tw_l b)))
def tw_kle (a b : tw_Ev) : Prop := ¬ tw_kl b a
theorem tw_kle_t {a b : tw_Ev} (h : tw_kle a b) : tw_t a ≤ tw_t b := by
  unfold tw_kle tw_kl at h; omega
theorem tw_kle_anti {a b : tw_Ev} (hp : a.2.1 = b.2.1) (h : tw_kle a b) (h' : tw_kle b a) : a = b := by
  unfold tw_kle tw_kl at h h'
  have e1 : tw_t a = tw_t b := by omega
  have e2 : tw_v a = tw_v b := by omega
  have e3 : tw_l a = tw_l b := by omega
  obtain ⟨a1, a2, a3, a4⟩ := a
  obtain ⟨b1, b2, b3, b4⟩ := b
  have f1 : a1 = b1 := Int32.toInt_inj.mp e1
  have f2 : a2 = b2 := hp
  have f3 : a3 = b3 := Int32.toInt_inj.mp e2
  have f4 : a4 = b4 := Int32.toInt_inj.mp e3
  rw [f1, f2, f3, f4]
def tw_stp (s v : Int32) : Int32 := s * 5 + v + 1
def tw_run : Int32 → List tw_Ev → Int32
  | s, [] => s
  | s, e :: l => tw_run (tw_stp s e.2.2.1) l
/-- what an event sends, its process' state being s behind it -/
def tw_chd (tg dl mk : Nat → Int32) (p : Nat) (s : Int32) (e : tw_Ev) : List tw_Ev :=
  if 0 < tw_l e ∧ s &&& mk p = 0 then [(e.1 + dl p, tg p, (s >>> ((2 : Int32) &&& 31)) &&& 15, e.2.2.2 - 1)] else []
def tw_kds (tg dl mk : Nat → Int32) (p : Nat) : Int32 → List tw_Ev → List tw_Ev
  | _, [] => []
  | s, e :: l => tw_chd tg dl mk p (tw_stp s e.2.2.1) e ++ tw_kds tg dl mk p (tw_stp s e.2.2.1) l
def tw_ok (e : tw_Ev) : Prop := 0 ≤ tw_t e ∧ 0 ≤ tw_l e ∧ tw_t e + 9 * tw_l e ≤ 126
def tw_ru (tg dl mk : Nat → Int32) : Prop := ∀ p, p < 4 → (∃ q, q < 4 ∧ tg p = nI q) ∧ 1 ≤ (dl p).toInt ∧ (dl p).toInt ≤ 9
theorem tw_run_app (l1 l2 : List tw_Ev) : ∀ s, tw_run s (l1 ++ l2) = tw_run (tw_run s l1) l2 := by
  induction l1 with
  | nil => intro s; rfl
  | cons e l ih => intro s; exact ih _
section
variable {tg dl mk : Nat → Int32}
theorem tw_kds_app {p : Nat} (l1 l2 : List tw_Ev) : ∀ s, tw_kds tg dl mk p s (l1 ++ l2) = tw_kds tg dl mk p s l1 ++ tw_kds tg dl mk p (tw_run s l1) l2 := by
  induction l1 with
  | nil => intro s; rfl
  | cons e l ih =>
    intro s
    show tw_chd tg dl mk p (tw_stp s e.2.2.1) e ++ tw_kds tg dl mk p (tw_stp s e.2.2.1) (l ++ l2) = (tw_chd tg dl mk p (tw_stp s e.2.2.1) e ++ tw_kds tg dl mk p (tw_stp s e.2.2.1) l) ++ tw_kds tg dl mk p (tw_run (tw_stp s e.2.2.1) l) l2
    rw [ih, List.append_assoc]
theorem tw_chd_c {p : Nat} (s : Int32) {e : tw_Ev} (R : tw_ru tg dl mk) (hp : p < 4) (ho : tw_ok e) :
    tw_chd tg dl mk p s e = [] ∨ ∃ c, tw_chd tg dl mk p s e = [c] ∧ tw_ok c ∧ tw_t e < tw_t c ∧ tw_l c + 1 = tw_l e ∧ (∃ q, q < 4 ∧ c.2.1 = nI q) := by
  unfold tw_chd
  by_cases hc : 0 < tw_l e ∧ s &&& mk p = 0
  · right
    rw [if_pos hc]
    refine ⟨_, rfl, ?_⟩
    obtain ⟨⟨q, hq, eq⟩, d1, d9⟩ := R p hp
    obtain ⟨o1, o2, o3⟩ := ho
    have h1 : (1 : Int32).toInt = 1 := by decide
    have hl := hc.1
    have et : (e.1 + dl p).toInt = e.1.toInt + (dl p).toInt := by
      unfold tw_t tw_l at *
      exact Jvm.Kit.i32_add (by omega) (by omega)
    have el : (e.2.2.2 - 1).toInt = e.2.2.2.toInt - 1 := by
      unfold tw_t tw_l at *
      rw [Jvm.Kit.i32_sub (by omega) (by omega), h1]
    unfold tw_ok
    unfold tw_t tw_l at *
    dsimp only
    rw [et, el]
    exact ⟨⟨by omega, by omega, by omega⟩, by omega, by omega, q, hq, eq⟩
  · left
    rw [if_neg hc]
theorem tw_kds_mem {p : Nat} {c : tw_Ev} (R : tw_ru tg dl mk) (hp : p < 4) : ∀ (l : List tw_Ev) (s : Int32), (∀ e ∈ l, tw_ok e) → c ∈ tw_kds tg dl mk p s l → tw_ok c ∧ (∃ q, q < 4 ∧ c.2.1 = nI q) ∧ ∃ e ∈ l, tw_t e < tw_t c := by
  intro l
  induction l with
  | nil => intro s _ h; exact absurd h (List.not_mem_nil)
  | cons e l ih =>
    intro s ho h
    have oe := ho e List.mem_cons_self
    rcases List.mem_append.mp h with h | h
    · rcases tw_chd_c (tw_stp s e.2.2.1) R hp oe with hn | ⟨d, hd, a, b, _, q⟩
      · rw [hn] at h; exact absurd h (List.not_mem_nil)
      · rw [hd] at h
        have hcd := List.mem_singleton.mp h
        subst hcd
        exact ⟨a, q, e, List.mem_cons_self, b⟩
    · obtain ⟨a, q, f, hf, g⟩ := ih _ (fun e' h' => ho e' (List.mem_cons_of_mem _ h')) h
      exact ⟨a, q, f, List.mem_cons_of_mem _ hf, g⟩
theorem tw_kds_0 {p : Nat} {c : tw_Ev} {T : Int} (R : tw_ru tg dl mk) (hp : p < 4) (l : List tw_Ev) (s : Int32) (h : ∀ e ∈ l, tw_ok e ∧ T ≤ tw_t e) (hc : tw_t c ≤ T) : (tw_kds tg dl mk p s l).count c = 0 := by
  apply List.count_eq_zero_of_not_mem
  intro hm
  obtain ⟨_, _, e, he, hl⟩ := tw_kds_mem R hp l s (fun e he => (h e he).1) hm
  have := (h e he).2
  omega
end
/-! sums over the four processes -/
def tw_s4 (f : Nat → Nat) : Nat := f 0 + f 1 + f 2 + f 3
theorem tw_s4_c {f g : Nat → Nat} (h : ∀ p, p < 4 → f p = g p) : tw_s4 f = tw_s4 g := by
  unfold tw_s4
  rw [h 0 (by decide), h 1 (by decide), h 2 (by decide), h 3 (by decide)]
theorem tw_lt4 {p : Nat} (h : p < 4) : p = 0 ∨ p = 1 ∨ p = 2 ∨ p = 3 := by omega
theorem tw_s4_u {f g : Nat → Nat} {p : Nat} (hp : p < 4) (h : ∀ q, q < 4 → q ≠ p → g q = f q) : tw_s4 g + f p = tw_s4 f + g p := by
  unfold tw_s4
  rcases tw_lt4 hp with rfl | rfl | rfl | rfl
  · have a := h 1 (by decide) (by decide); have b := h 2 (by decide) (by decide); have c := h 3 (by decide) (by decide); omega
  · have a := h 0 (by decide) (by decide); have b := h 2 (by decide) (by decide); have c := h 3 (by decide) (by decide); omega
  · have a := h 1 (by decide) (by decide); have b := h 0 (by decide) (by decide); have c := h 3 (by decide) (by decide); omega
  · have a := h 1 (by decide) (by decide); have b := h 2 (by decide) (by decide); have c := h 0 (by decide) (by decide); omega
theorem tw_s4_1 {f : Nat → Nat} {p : Nat} (hp : p < 4) (h : ∀ q, q < 4 → q ≠ p → f q = 0) : tw_s4 f = f p := by
  have := tw_s4_u (f := fun _ => 0) (g := f) hp (fun q a b => h q a b)
  have z : tw_s4 (fun _ => 0) = 0 := rfl
  rw [z] at this
  omega
/-! weights -/
def tw_w : List tw_Ev → Nat
  | [] => 0
  | e :: l => (tw_l e).toNat + 1 + tw_w l
theorem tw_w_app (a b : List tw_Ev) : tw_w (a ++ b) = tw_w a + tw_w b := by
  induction a with
  | nil => simp [tw_w]
  | cons e l ih => simp only [List.cons_append, tw_w, ih]; omega
theorem tw_w_perm {a b : List tw_Ev} (h : a.Perm b) : tw_w a = tw_w b := by
  induction h with
  | nil => rfl
  | cons x _ ih => simp only [tw_w, ih]
  | swap x y l => simp only [tw_w]; omega
  | trans _ _ h1 h2 => exact h1.trans h2
theorem tw_w_len (l : List tw_Ev) : l.length ≤ tw_w l := by
  induction l with
  | nil => exact Nat.le_refl _
  | cons e l ih => simp only [tw_w, List.length_cons]; omega
theorem tw_w_len1 {e : tw_Ev} (he : 1 ≤ tw_l e) : ∀ {l : List tw_Ev}, e ∈ l → l.length + 1 ≤ tw_w l := by
  intro l
  induction l with
  | nil => intro h; exact absurd h (List.not_mem_nil)
  | cons f l ih =>
    intro h
    have hl := tw_w_len l
    simp only [tw_w, List.length_cons]
    rcases List.mem_cons.mp h with h | h
    · rw [← h]; omega
    · have := ih h; omega
theorem tw_w_le {l : List tw_Ev} (h : ∀ e ∈ l, tw_l e ≤ 3) : tw_w l ≤ 4 * l.length := by
  induction l with
  | nil => exact Nat.le_refl _
  | cons f l ih =>
    have a := h f List.mem_cons_self
    have b := ih (fun e he => h e (List.mem_cons_of_mem _ he))
    simp only [tw_w, List.length_cons]; omega
section
variable {tg dl mk : Nat → Int32}
theorem tw_w_kds {p : Nat} (R : tw_ru tg dl mk) (hp : p < 4) : ∀ (l : List tw_Ev) (s : Int32), (∀ e ∈ l, tw_ok e) → tw_w (tw_kds tg dl mk p s l) + l.length ≤ tw_w l := by
  intro l
  induction l with
  | nil => intro s _; exact Nat.le_refl _
  | cons e l ih =>
    intro s ho
    have oe := ho e List.mem_cons_self
    have i := ih (tw_stp s e.2.2.1) (fun e' h' => ho e' (List.mem_cons_of_mem _ h'))
    simp only [tw_kds, tw_w_app, tw_w, List.length_cons]
    rcases tw_chd_c (tw_stp s e.2.2.1) R hp oe with hn | ⟨d, hd, a, b, c, q⟩
    · rw [hn]; simp only [tw_w]; omega
    · rw [hd]; simp only [tw_w]
      have := a.2.1
      omega
/-- the count equation: what is there is what was injected or sent, but for what is called back -/
def tw_CE (tg dl mk : Nat → Int32) (inj : List tw_Ev) (H : Nat → List tw_Ev) (P S : List tw_Ev) : Prop :=
  ∀ c, P.count c + tw_s4 (fun p => (H p).count c) = inj.count c + tw_s4 (fun p => (tw_kds tg dl mk p 0 (H p)).count c) + S.count c
theorem tw_bound {inj P S : List tw_Ev} {H : Nat → List tw_Ev} (R : tw_ru tg dl mk) (C : tw_CE tg dl mk inj H P S) (ho : ∀ p, p < 4 → ∀ e ∈ H p, tw_ok e) :
    tw_w P + tw_s4 (fun p => (H p).length) ≤ tw_w inj + tw_w S := by
  have hp : (P ++ (H 0 ++ (H 1 ++ (H 2 ++ H 3)))).Perm (inj ++ (tw_kds tg dl mk 0 0 (H 0) ++ (tw_kds tg dl mk 1 0 (H 1) ++ (tw_kds tg dl mk 2 0 (H 2) ++ tw_kds tg dl mk 3 0 (H 3)))) ++ S) := by
    rw [List.perm_iff_count]
    intro c
    have := C c
    simp only [tw_s4] at this
    simp only [List.count_append]
    omega
  have w := tw_w_perm hp
  simp only [tw_w_app] at w
  have k0 := tw_w_kds R (p := 0) (by decide) (H 0) 0 (ho 0 (by decide))
  have k1 := tw_w_kds R (p := 1) (by decide) (H 1) 0 (ho 1 (by decide))
  have k2 := tw_w_kds R (p := 2) (by decide) (H 2) 0 (ho 2 (by decide))
  have k3 := tw_w_kds R (p := 3) (by decide) (H 3) 0 (ho 3 (by decide))
  simp only [tw_s4]
  omega
end
end
section
theorem tw_split {α : Type} (f : α → Int) (T : Int) : ∀ l : List α, l.Pairwise (fun a b => f a ≤ f b) → l = l.filter (fun e => decide (f e ≤ T)) ++ l.filter (fun e => decide (T < f e)) := by
  intro l
  induction l with
  | nil => intro _; rfl
  | cons e l ih =>
    intro h
    have h' := List.pairwise_cons.mp h
    by_cases c : f e ≤ T
    · have e1 : (e :: l).filter (fun e => decide (f e ≤ T)) = e :: l.filter (fun e => decide (f e ≤ T)) := List.filter_cons_of_pos (by simpa using c)
      have e2 : (e :: l).filter (fun e => decide (T < f e)) = l.filter (fun e => decide (T < f e)) := List.filter_cons_of_neg (by simp only [decide_eq_true_eq]; omega)
      rw [e1, e2, List.cons_append]
      exact congrArg (e :: ·) (ih h'.2)
    · have all : ∀ x ∈ l, T < f x := fun x hx => by have := h'.1 x hx; omega
      have z : (e :: l).filter (fun e => decide (f e ≤ T)) = [] := List.filter_eq_nil_iff.mpr (fun x hx => by
        rcases List.mem_cons.mp hx with hx | hx
        · rw [hx]; simpa using c
        · have := all x hx
          simp only [decide_eq_true_eq]; omega)
      have o : (e :: l).filter (fun e => decide (T < f e)) = e :: l := List.filter_eq_self.mpr (fun x hx => by
        rcases List.mem_cons.mp hx with hx | hx
        · rw [hx]; simp only [decide_eq_true_eq]; omega
        · have := all x hx
          simp only [decide_eq_true_eq]; omega)
      rw [z, o, List.nil_append]
section
variable {tg dl mk : Nat → Int32}
/-- closed up to T: lists in order, and each event up to T is injected or sent, as often as it is there -/
def tw_cl (tg dl mk : Nat → Int32) (inj : List tw_Ev) (T : Int) (h : Nat → List tw_Ev) : Prop :=
  (∀ p, p < 4 → (h p).Pairwise tw_kle ∧ ∀ e ∈ h p, tw_ok e ∧ tw_t e ≤ T ∧ e.2.1 = nI p) ∧
  ∀ c, tw_t c ≤ T → tw_s4 (fun p => (h p).count c) = inj.count c + tw_s4 (fun p => (tw_kds tg dl mk p 0 (h p)).count c)
theorem tw_cl_E {inj : List tw_Ev} {T : Int} {h : Nat → List tw_Ev} (R : tw_ru tg dl mk) (A : tw_cl tg dl mk inj T h) {p : Nat} (hp : p < 4) {n : Int} (hn : n ≤ T) {c : tw_Ev} (hc : tw_t c = n) (hcp : c.2.1 = nI p) :
    ((h p).filter (fun e => decide (tw_t e = n))).count c = inj.count c + tw_s4 (fun q => (tw_kds tg dl mk q 0 ((h q).filter (fun e => decide (tw_t e ≤ n - 1)))).count c) := by
  rw [List.count_filter (by simpa using hc)]
  have s : tw_s4 (fun q => (h q).count c) = (h p).count c := tw_s4_1 (f := fun q => (h q).count c) hp (fun q hq hne => List.count_eq_zero_of_not_mem (fun hm => by
    have h1 := ((A.1 q hq).2 c hm).2.2
    rw [hcp] at h1
    exact hne ((nI_eq (by omega) (by omega)).mp h1).symm))
  rw [← s, A.2 c (by omega)]
  congr 1
  apply tw_s4_c
  intro q hq
  have sp := tw_split tw_t (n - 1) (h q) ((A.1 q hq).1.imp (fun h => tw_kle_t h))
  have e1 : tw_kds tg dl mk q 0 (h q) = tw_kds tg dl mk q 0 ((h q).filter (fun e => decide (tw_t e ≤ n - 1))) ++ tw_kds tg dl mk q (tw_run 0 ((h q).filter (fun e => decide (tw_t e ≤ n - 1)))) ((h q).filter (fun e => decide (n - 1 < tw_t e))) := by
    rw [← tw_kds_app, ← sp]
  have z : (tw_kds tg dl mk q (tw_run 0 ((h q).filter (fun e => decide (tw_t e ≤ n - 1)))) ((h q).filter (fun e => decide (n - 1 < tw_t e)))).count c = 0 :=
    tw_kds_0 (T := n) R hq _ _ (fun e he => by
      have m := List.mem_filter.mp he
      have m2 : n - 1 < tw_t e := by simpa using m.2
      exact ⟨((A.1 q hq).2 e m.1).1, by omega⟩) (by omega)
  show List.count c (tw_kds tg dl mk q 0 (h q)) = _
  rw [e1, List.count_append, z, Nat.add_zero]
theorem tw_flt (l : List tw_Ev) (h : l.Pairwise tw_kle) (n : Nat) : l.filter (fun e => decide (tw_t e ≤ ((n + 1 : Nat) : Int) - 1)) = l.filter (fun e => decide (tw_t e ≤ (n : Int) - 1)) ++ l.filter (fun e => decide (tw_t e = (n : Int))) := by
  have sp := tw_split tw_t ((n : Int) - 1) (l.filter (fun e => decide (tw_t e ≤ ((n + 1 : Nat) : Int) - 1))) ((h.filter _).imp (fun h => tw_kle_t h))
  have e1 : (l.filter (fun e => decide (tw_t e ≤ ((n + 1 : Nat) : Int) - 1))).filter (fun e => decide (tw_t e ≤ (n : Int) - 1)) = l.filter (fun e => decide (tw_t e ≤ (n : Int) - 1)) := by
    rw [List.filter_filter]
    apply List.filter_congr
    intro e _
    rw [Bool.eq_iff_iff]
    simp only [Bool.and_eq_true, decide_eq_true_eq]
    omega
  have e2 : (l.filter (fun e => decide (tw_t e ≤ ((n + 1 : Nat) : Int) - 1))).filter (fun e => decide ((n : Int) - 1 < tw_t e)) = l.filter (fun e => decide (tw_t e = (n : Int))) := by
    rw [List.filter_filter]
    apply List.filter_congr
    intro e _
    rw [Bool.eq_iff_iff]
    simp only [Bool.and_eq_true, decide_eq_true_eq]
    omega
  rw [e1, e2] at sp
  exact sp
theorem tw_uniq {inj : List tw_Ev} {T : Int} {h h' : Nat → List tw_Ev} (R : tw_ru tg dl mk) (A : tw_cl tg dl mk inj T h) (B : tw_cl tg dl mk inj T h') : ∀ p, p < 4 → h p = h' p := by
  have key : ∀ n : Nat, ∀ p, p < 4 → (h p).filter (fun e => decide (tw_t e ≤ (n : Int) - 1)) = (h' p).filter (fun e => decide (tw_t e ≤ (n : Int) - 1)) := by
    intro n
    induction n with
    | zero =>
      intro p hp
      have z : ∀ g : Nat → List tw_Ev, tw_cl tg dl mk inj T g → (g p).filter (fun e => decide (tw_t e ≤ ((0 : Nat) : Int) - 1)) = [] := by
        intro g G
        apply List.filter_eq_nil_iff.mpr
        intro e he
        have := ((G.1 p hp).2 e he).1.1
        simp only [decide_eq_true_eq]; omega
      rw [z h A, z h' B]
    | succ n ih =>
      intro p hp
      rw [tw_flt _ (A.1 p hp).1, tw_flt _ (B.1 p hp).1, ih p hp]
      congr 1
      have hk : (fun q => (h q).filter (fun e => decide (tw_t e ≤ (n : Int) - 1))) = fun q => (h q).filter (fun e => decide (tw_t e ≤ (n : Int) - 1)) := rfl
      apply List.Perm.eq_of_pairwise (le := tw_kle)
      · intro a b ha hb l1 l2
        have ma := (List.mem_filter.mp ha).1
        have mb := (List.mem_filter.mp hb).1
        exact tw_kle_anti (((A.1 p hp).2 a ma).2.2.trans ((B.1 p hp).2 b mb).2.2.symm) l1 l2
      · exact (A.1 p hp).1.filter _
      · exact (B.1 p hp).1.filter _
      · rw [List.perm_iff_count]
        intro c
        have zero : ∀ g : Nat → List tw_Ev, tw_cl tg dl mk inj T g → ¬ (tw_t c = (n : Int) ∧ c.2.1 = nI p ∧ (n : Int) ≤ T) → ((g p).filter (fun e => decide (tw_t e = (n : Int)))).count c = 0 := by
          intro g G hn
          apply List.count_eq_zero_of_not_mem
          intro hm
          have m := List.mem_filter.mp hm
          have m2 : tw_t c = (n : Int) := by simpa using m.2
          have g2 := (G.1 p hp).2 c m.1
          exact hn ⟨m2, g2.2.2, by omega⟩
        by_cases hc : tw_t c = (n : Int) ∧ c.2.1 = nI p ∧ (n : Int) ≤ T
        · rw [tw_cl_E R A hp hc.2.2 hc.1 hc.2.1, tw_cl_E R B hp hc.2.2 hc.1 hc.2.1]
          congr 1
          apply tw_s4_c
          intro q hq
          show List.count c (tw_kds tg dl mk q 0 ((h q).filter (fun e => decide (tw_t e ≤ (n : Int) - 1)))) = List.count c (tw_kds tg dl mk q 0 ((h' q).filter (fun e => decide (tw_t e ≤ (n : Int) - 1))))
          rw [ih q hq]
        · rw [zero h A hc, zero h' B hc]
  intro p hp
  have f : ∀ g : Nat → List tw_Ev, tw_cl tg dl mk inj T g → (g p).filter (fun e => decide (tw_t e ≤ ((127 : Nat) : Int) - 1)) = g p := by
    intro g G
    apply List.filter_eq_self.mpr
    intro e he
    have := ((G.1 p hp).2 e he).1
    unfold tw_ok at this
    simp only [decide_eq_true_eq]; omega
  have k := key 127 p hp
  rw [f h A, f h' B] at k
  exact k
theorem tw_cl_of {inj P : List tw_Ev} {T : Int} {H : Nat → List tw_Ev} (R : tw_ru tg dl mk) (C : tw_CE tg dl mk inj H P []) (hs : ∀ p, p < 4 → (H p).Pairwise tw_kle ∧ ∀ e ∈ H p, tw_ok e ∧ e.2.1 = nI p) (hP : ∀ e ∈ P, T < tw_t e) :
    tw_cl tg dl mk inj T (fun p => (H p).filter (fun e => decide (tw_t e ≤ T))) := by
  refine ⟨fun p hp => ⟨(hs p hp).1.filter _, fun e he => ?_⟩, fun c hc => ?_⟩
  · have m := List.mem_filter.mp he
    have m2 : tw_t e ≤ T := by simpa using m.2
    have g := (hs p hp).2 e m.1
    exact ⟨g.1, m2, g.2⟩
  · have h0 := C c
    have z : P.count c = 0 := List.count_eq_zero_of_not_mem (fun hm => by have := hP c hm; omega)
    have e1 : tw_s4 (fun p => ((H p).filter (fun e => decide (tw_t e ≤ T))).count c) = tw_s4 (fun p => (H p).count c) := by
      apply tw_s4_c
      intro q hq
      exact List.count_filter (by simpa using hc)
    have e2 : tw_s4 (fun p => (tw_kds tg dl mk p 0 ((H p).filter (fun e => decide (tw_t e ≤ T)))).count c) = tw_s4 (fun p => (tw_kds tg dl mk p 0 (H p)).count c) := by
      apply tw_s4_c
      intro q hq
      have sp := tw_split tw_t T (H q) ((hs q hq).1.imp (fun h => tw_kle_t h))
      have e3 : tw_kds tg dl mk q 0 (H q) = tw_kds tg dl mk q 0 ((H q).filter (fun e => decide (tw_t e ≤ T))) ++ tw_kds tg dl mk q (tw_run 0 ((H q).filter (fun e => decide (tw_t e ≤ T)))) ((H q).filter (fun e => decide (T < tw_t e))) := by
        rw [← tw_kds_app, ← sp]
      have z2 : (tw_kds tg dl mk q (tw_run 0 ((H q).filter (fun e => decide (tw_t e ≤ T)))) ((H q).filter (fun e => decide (T < tw_t e)))).count c = 0 :=
        tw_kds_0 (T := T) R hq _ _ (fun e he => by
          have m := List.mem_filter.mp he
          have m2 : T < tw_t e := by simpa using m.2
          exact ⟨((hs q hq).2 e m.1).1, by omega⟩) hc
      show List.count c _ = List.count c (tw_kds tg dl mk q 0 (H q))
      rw [e3, List.count_append, z2, Nat.add_zero]
    rw [z, List.count_nil] at h0
    show tw_s4 (fun p => ((H p).filter (fun e => decide (tw_t e ≤ T))).count c) = _ + tw_s4 (fun p => (tw_kds tg dl mk p 0 ((H p).filter (fun e => decide (tw_t e ≤ T)))).count c)
    rw [e1, e2]
    omega
end
end
section
theorem tw_us {f : Nat → Int32} {k : Nat} {x : Int32} : upd f k x k = x := if_pos rfl
theorem tw_un {f : Nat → Int32} {k j : Nat} {x : Int32} (h : j ≠ k) : upd f k x j = f j := if_neg h
theorem tw_uid {f : Nat → Int32} {k : Nat} {x : Int32} (h : f k = x) : upd f k x = f := by
  funext j
  by_cases c : j = k
  · rw [c, tw_us, h]
  · rw [tw_un c]
theorem tw_ni {p q : Nat} (hp : p < 96) (hq : q < 96) (h : nI p = nI q) : p = q := (nI_eq (by omega) (by omega)).mp h
theorem tw_nm {p : Nat} (hp : p < 96) (h : nI p = -1) : False := by
  have := nI_pos (n := p) (by omega)
  rw [h] at this
  exact this (by decide)
/-! the order of places -/
def tw_so (E : Nat → tw_Ev) (i j : Nat) : Prop := tw_kl (E i) (E j) ∨ (¬ tw_kl (E j) (E i) ∧ i < j)
section
variable {E : Nat → tw_Ev} {i j k : Nat}
theorem tw_so_tr (a : tw_so E i j) (b : tw_so E j k) : tw_so E i k := by unfold tw_so tw_kl at *; omega
theorem tw_so_ir : ¬ tw_so E i i := by unfold tw_so tw_kl; omega
theorem tw_so_as (a : tw_so E i j) (b : tw_so E j i) : False := tw_so_ir (tw_so_tr a b)
theorem tw_so_tot (h : i ≠ j) : tw_so E i j ∨ tw_so E j i := by unfold tw_so tw_kl; omega
theorem tw_so_t (a : tw_so E i j) : tw_t (E i) ≤ tw_t (E j) := by unfold tw_so tw_kl at a; omega
theorem tw_so_kle (a : tw_so E i j) : tw_kle (E i) (E j) := by unfold tw_so at a; unfold tw_kle; unfold tw_kl at *; omega
end
/-! states before: a chain -/
def tw_chn (be : Nat → Int32) (E : Nat → tw_Ev) : Int32 → List Nat → Int32 → Prop
  | s, [], r => r = s
  | s, i :: l, r => be i = s ∧ tw_chn be E (tw_stp s (E i).2.2.1) l r
section
variable {be : Nat → Int32} {E : Nat → tw_Ev}
theorem tw_chn_run : ∀ {l : List Nat} {s r : Int32}, tw_chn be E s l r → r = tw_run s (l.map E) := by
  intro l
  induction l with
  | nil => intro s r h; exact h
  | cons i l ih => intro s r h; exact ih h.2
theorem tw_chn_app {l2 : List Nat} : ∀ {l1 : List Nat} {s r : Int32}, tw_chn be E s (l1 ++ l2) r ↔ ∃ m, tw_chn be E s l1 m ∧ tw_chn be E m l2 r := by
  intro l1
  induction l1 with
  | nil =>
    intro s r
    constructor
    · intro h; exact ⟨s, rfl, h⟩
    · rintro ⟨m, e, h⟩
      have e' : m = s := e
      rw [e'] at h
      exact h
  | cons i l ih =>
    intro s r
    constructor
    · intro h
      obtain ⟨m, h1, h2⟩ := ih.mp h.2
      exact ⟨m, ⟨h.1, h1⟩, h2⟩
    · rintro ⟨m, h1, h2⟩
      exact ⟨h1.1, ih.mpr ⟨m, h1.2, h2⟩⟩
theorem tw_chn_cg {be' : Nat → Int32} {E' : Nat → tw_Ev} : ∀ {l : List Nat} {s r : Int32}, (∀ i ∈ l, be' i = be i ∧ E' i = E i) → tw_chn be E s l r → tw_chn be' E' s l r := by
  intro l
  induction l with
  | nil => intro s r _ h; exact h
  | cons i l ih =>
    intro s r hc h
    have c := hc i List.mem_cons_self
    refine ⟨c.1.trans h.1, ?_⟩
    rw [c.2]
    exact ih (fun j hj => hc j (List.mem_cons_of_mem _ hj)) h.2
end
def tw_ud (D : Nat → List Nat) (p : Nat) (L : List Nat) : Nat → List Nat := fun q => if q = p then L else D q
theorem tw_ud_s {D : Nat → List Nat} {p : Nat} {L : List Nat} : tw_ud D p L p = L := if_pos rfl
theorem tw_ud_n {D : Nat → List Nat} {p q : Nat} {L : List Nat} (h : q ≠ p) : tw_ud D p L q = D q := if_neg h
/-- what a handled event's 'sent' says: none, or the place of the one child -/
def tw_sn (E : Nat → tw_Ev) (us : Nat → Int32) (v : Int32) (L : List tw_Ev) : Prop := (v = -1 ∧ L = []) ∨ ∃ k, k < 96 ∧ v = nI k ∧ us k ≠ 0 ∧ L = [E k]
def tw_iA (D : Nat → List Nat) (P : List Nat) (E : Nat → tw_Ev) (us dn : Nat → Int32) : Prop :=
  P.Nodup ∧ (∀ i, i ∈ P ↔ i < 96 ∧ us i ≠ 0 ∧ dn i = 0) ∧ ∀ p, p < 4 → ∀ i, i ∈ D p ↔ i < 96 ∧ us i ≠ 0 ∧ dn i ≠ 0 ∧ (E i).2.1 = nI p
def tw_iB (ln : Int) (E : Nat → tw_Ev) (us : Nat → Int32) : Prop := ∀ i, i < 96 → us i ≠ 0 → tw_ok (E i) ∧ ln < tw_t (E i) ∧ ∃ p, p < 4 ∧ (E i).2.1 = nI p
def tw_iC (x : Nat) (D : Nat → List Nat) (P : List Nat) (E : Nat → tw_Ev) : Prop :=
  ∀ p, p < 4 → (D p).Pairwise (tw_so E) ∧ ∀ i ∈ D p, ∀ j ∈ P, j ≠ x → (E j).2.1 = nI p → tw_so E i j
def tw_iD (F : Nat → List tw_Ev) (D : Nat → List Nat) (E : Nat → tw_Ev) (be no : Nat → Int32) : Prop := ∀ p, p < 4 → tw_chn be E (tw_run 0 (F p)) (D p) (no p)
def tw_iE (tg dl mk : Nat → Int32) (D : Nat → List Nat) (E : Nat → tw_Ev) (us be se : Nat → Int32) : Prop :=
  ∀ p, p < 4 → ∀ i ∈ D p, tw_sn E us (se i) (tw_chd tg dl mk p (tw_stp (be i) (E i).2.2.1) (E i))
def tw_iF (P : List Nat) (se : Nat → Int32) : Prop := ∀ i ∈ P, se i = -1
def tw_iG (D : Nat → List Nat) (S : List Nat) (us se : Nat → Int32) : Prop :=
  S.Nodup ∧ (∀ k ∈ S, k < 96 ∧ us k ≠ 0) ∧ (∀ p, p < 4 → ∀ i ∈ D p, ∀ k ∈ S, se i ≠ nI k) ∧ ∀ p, p < 4 → ∀ q, q < 4 → ∀ i ∈ D p, ∀ j ∈ D q, se i = se j → se i = -1 ∨ i = j
/-- X's invariant but for the counts; x: a place that may not be in order yet -/
def tw_iv (tg dl mk : Nat → Int32) (F : Nat → List tw_Ev) (ln : Int) (x : Nat) (D : Nat → List Nat) (P S : List Nat) (E : Nat → tw_Ev) (us dn be se no : Nat → Int32) : Prop :=
  tw_iA D P E us dn ∧ tw_iB ln E us ∧ tw_iC x D P E ∧ tw_iD F D E be no ∧ tw_iE tg dl mk D E us be se ∧ tw_iF P se ∧ tw_iG D S us se
def tw_hh (F : Nat → List tw_Ev) (D : Nat → List Nat) (E : Nat → tw_Ev) : Nat → List tw_Ev := fun p => F p ++ (D p).map E
section
variable {tg dl mk : Nat → Int32} {inj : List tw_Ev} {F : Nat → List tw_Ev} {ln : Int} {x : Nat} {D : Nat → List Nat} {P S : List Nat} {E : Nat → tw_Ev} {us dn be se no : Nat → Int32}
theorem tw_sub {p e : Nat} {L : List Nat} (A : tw_iA D P E us dn) (C : tw_iC x D P E) (hp : p < 4) (hD : D p = L ++ [e]) :
    (e ∈ D p ∧ e < 96 ∧ us e ≠ 0 ∧ dn e ≠ 0 ∧ (E e).2.1 = nI p) ∧ (∀ i ∈ L, tw_so E i e) ∧ L.Pairwise (tw_so E) ∧ ∀ q, q < 4 → ∀ i, i ∈ tw_ud D p L q ↔ i ∈ D q ∧ i ≠ e := by
  obtain ⟨a1, a2, a3⟩ := A
  have eD : e ∈ D p := by rw [hD]; exact List.mem_append_right _ List.mem_cons_self
  have em := (a3 p hp e).mp eD
  have pw := (C p hp).1
  rw [hD] at pw
  have pw' := List.pairwise_append.mp pw
  have soL : ∀ i ∈ L, tw_so E i e := fun i hi => pw'.2.2 i hi e List.mem_cons_self
  have eL : e ∉ L := fun h => tw_so_ir (soL e h)
  refine ⟨⟨eD, em⟩, soL, pw'.1, fun q hq i => ?_⟩
  by_cases hqp : q = p
  · rw [hqp, tw_ud_s, hD, List.mem_append, List.mem_singleton]
    constructor
    · intro h; exact ⟨Or.inl h, fun z => eL (z ▸ h)⟩
    · rintro ⟨h | h, n⟩
      · exact h
      · exact absurd h n
  · rw [tw_ud_n hqp]
    constructor
    · intro h
      refine ⟨h, fun z => ?_⟩
      rw [z] at h
      have h1 := ((a3 q hq e).mp h).2.2.2
      rw [em.2.2.2] at h1
      exact hqp (tw_ni (by omega) (by omega) h1).symm
    · exact fun h => h.1
theorem tw_undo {p e : Nat} {L S' : List Nat} (I : tw_iv tg dl mk F ln x D P S E us dn be se no) (hp : p < 4) (hD : D p = L ++ [e])
    (hS : (se e = -1 ∧ S' = S) ∨ ∃ k, se e = nI k ∧ k < 96 ∧ S' = k :: S) :
    tw_iv tg dl mk F ln x (tw_ud D p L) (e :: P) S' E us (upd dn e 0) be (upd se e (-1)) (upd no p (be e)) := by
  obtain ⟨A, b, c, d, e', f, g1, g2, g3, g4⟩ := I
  obtain ⟨⟨eD, em⟩, soL, pwL, sub⟩ := tw_sub A c hp hD
  obtain ⟨a1, a2, a3⟩ := A
  have dnk : ∀ i, i ≠ e → upd dn e 0 i = dn i := fun i h => if_neg h
  have dne : upd dn e 0 e = 0 := if_pos rfl
  have sek : ∀ i, i ≠ e → upd se e (-1) i = se i := fun i h => if_neg h
  have see : upd se e (-1) e = -1 := if_pos rfl
  refine ⟨⟨?_, ?_, ?_⟩, b, ?_, ?_, ?_, ?_, ?_⟩
  · exact List.nodup_cons.mpr ⟨fun h => em.2.2.1 ((a2 e).mp h).2.2, a1⟩
  · intro i
    by_cases hi : i = e
    · rw [hi]
      exact ⟨fun _ => ⟨em.1, em.2.1, dne⟩, fun _ => List.mem_cons_self⟩
    · rw [List.mem_cons, dnk i hi, a2 i]
      exact ⟨fun h => h.elim (fun z => absurd z hi) id, Or.inr⟩
  · intro q hq i
    rw [sub q hq i, a3 q hq i]
    by_cases hi : i = e
    · rw [hi, dne]
      exact ⟨fun h => absurd rfl h.2, fun h => absurd rfl h.2.2.1⟩
    · rw [dnk i hi]
      exact ⟨fun h => h.1, fun h => ⟨h, hi⟩⟩
  · intro q hq
    refine ⟨?_, fun i hi j hj hx hpj => ?_⟩
    · by_cases hqp : q = p
      · rw [hqp, tw_ud_s]; exact pwL
      · rw [tw_ud_n hqp]; exact (c q hq).1
    · have hi' := (sub q hq i).mp hi
      rcases List.mem_cons.mp hj with hj | hj
      · rw [hj] at hpj ⊢
        rw [em.2.2.2] at hpj
        have hqp := tw_ni (by omega) (by omega) hpj
        rw [← hqp, tw_ud_s] at hi
        exact soL i hi
      · exact (c q hq).2 i hi'.1 j hj hx hpj
  · intro q hq
    by_cases hqp : q = p
    · have dp := d p hp
      rw [hD] at dp
      obtain ⟨m, m1, m2⟩ := tw_chn_app.mp dp
      rw [hqp, tw_ud_s, tw_us, m2.1]
      exact m1
    · rw [tw_ud_n hqp, tw_un hqp]
      exact d q hq
  · intro q hq i hi
    have hi' := (sub q hq i).mp hi
    rw [sek i hi'.2]
    exact e' q hq i hi'.1
  · intro i hi
    by_cases hie : i = e
    · rw [hie, see]
    · rw [sek i hie]
      exact f i ((List.mem_cons.mp hi).elim (fun z => absurd z hie) id)
  · have g4' : ∀ q, q < 4 → ∀ r, r < 4 → ∀ i ∈ tw_ud D p L q, ∀ j ∈ tw_ud D p L r, upd se e (-1) i = upd se e (-1) j → upd se e (-1) i = -1 ∨ i = j := by
      intro q hq r hr i hi j hj h
      have hi' := (sub q hq i).mp hi
      have hj' := (sub r hr j).mp hj
      rw [sek i hi'.2, sek j hj'.2] at h
      rw [sek i hi'.2]
      exact g4 q hq r hr i hi'.1 j hj'.1 h
    rcases hS with ⟨h1, h2⟩ | ⟨k, h1, hk, h2⟩
    · rw [h2]
      refine ⟨g1, g2, fun q hq i hi k hk => ?_, g4'⟩
      have hi' := (sub q hq i).mp hi
      rw [sek i hi'.2]
      exact g3 q hq i hi'.1 k hk
    · rw [h2]
      have hu : us k ≠ 0 := by
        rcases e' p hp e eD with ⟨z, _⟩ | ⟨k', hk', z, u, _⟩
        · rw [h1] at z; exact (tw_nm hk z).elim
        · rw [h1] at z
          rw [tw_ni hk hk' z]
          exact u
      refine ⟨List.nodup_cons.mpr ⟨fun h => g3 p hp e eD k h h1, g1⟩, ?_, ?_, g4'⟩
      · intro j hj
        rcases List.mem_cons.mp hj with hj | hj
        · rw [hj]; exact ⟨hk, hu⟩
        · exact g2 j hj
      · intro q hq i hi j hj
        have hi' := (sub q hq i).mp hi
        rw [sek i hi'.2]
        rcases List.mem_cons.mp hj with hj | hj
        · rw [hj]
          intro z
          rcases g4 q hq p hp i hi'.1 e eD (z.trans h1.symm) with y | y
          · rw [z] at y; exact tw_nm hk y
          · exact hi'.2 y
        · exact g3 q hq i hi'.1 j hj
theorem tw_undo_c {p e : Nat} {L S' : List Nat} (C : tw_CE tg dl mk inj (tw_hh F D E) (P.map E) (S.map E)) (hp : p < 4) (hD : D p = L ++ [e]) (d : tw_iD F D E be no)
    (hS : ∀ c, (S'.map E).count c = (S.map E).count c + (tw_chd tg dl mk p (tw_stp (be e) (E e).2.2.1) (E e)).count c) :
    tw_CE tg dl mk inj (tw_hh F (tw_ud D p L) E) ((e :: P).map E) (S'.map E) := by
  intro c
  have h0 := C c
  have dp := d p hp
  rw [hD] at dp
  obtain ⟨m, m1, m2⟩ := tw_chn_app.mp dp
  have hm : tw_run 0 (F p ++ L.map E) = be e := by rw [tw_run_app, ← tw_chn_run m1]; exact m2.1.symm
  have u1 := tw_s4_u (f := fun q => (tw_hh F D E q).count c) (g := fun q => (tw_hh F (tw_ud D p L) E q).count c) hp (fun q _ hn => by
    show List.count c (F q ++ (tw_ud D p L q).map E) = List.count c (F q ++ (D q).map E)
    rw [tw_ud_n hn])
  have u2 := tw_s4_u (f := fun q => (tw_kds tg dl mk q 0 (tw_hh F D E q)).count c) (g := fun q => (tw_kds tg dl mk q 0 (tw_hh F (tw_ud D p L) E q)).count c) hp (fun q _ hn => by
    show List.count c (tw_kds tg dl mk q 0 (F q ++ (tw_ud D p L q).map E)) = List.count c (tw_kds tg dl mk q 0 (F q ++ (D q).map E))
    rw [tw_ud_n hn])
  have eo : tw_hh F D E p = (F p ++ L.map E) ++ [E e] := by
    show F p ++ (D p).map E = _
    rw [hD, List.map_append, List.append_assoc]; rfl
  have en : tw_hh F (tw_ud D p L) E p = F p ++ L.map E := by
    show F p ++ (tw_ud D p L p).map E = _
    rw [tw_ud_s]
  have v1 : (tw_hh F D E p).count c = (tw_hh F (tw_ud D p L) E p).count c + [E e].count c := by rw [eo, en, List.count_append]
  have v2 : (tw_kds tg dl mk p 0 (tw_hh F D E p)).count c = (tw_kds tg dl mk p 0 (tw_hh F (tw_ud D p L) E p)).count c + (tw_chd tg dl mk p (tw_stp (be e) (E e).2.2.1) (E e)).count c := by
    rw [eo, en, tw_kds_app, List.count_append, hm]
    show _ + List.count c (tw_chd tg dl mk p (tw_stp (be e) (E e).2.2.1) (E e) ++ []) = _
    rw [List.append_nil]
  have v3 : ((e :: P).map E).count c = (P.map E).count c + [E e].count c := by
    show List.count c ([E e] ++ P.map E) = _
    rw [List.count_append, Nat.add_comm]
  have hs := hS c
  rw [v3]
  omega
theorem tw_pop {e : Nat} (I : tw_iv tg dl mk F ln x D P (e :: S) E us dn be se no) (hd : dn e = 0) :
    tw_iv tg dl mk F ln x D (P.erase e) S E (upd us e 0) dn be se no := by
  obtain ⟨⟨a1, a2, a3⟩, b, c, d, e', f, g1, g2, g3, g4⟩ := I
  have ge := g2 e List.mem_cons_self
  have eP : e ∈ P := (a2 e).mpr ⟨ge.1, ge.2, hd⟩
  have usk : ∀ i, i ≠ e → upd us e 0 i = us i := fun i h => if_neg h
  have use : upd us e 0 e = 0 := if_pos rfl
  have g1' := List.nodup_cons.mp g1
  have usn : ∀ i, upd us e 0 i ≠ 0 → i ≠ e ∧ us i ≠ 0 := by
    intro i h
    have hi : i ≠ e := fun z => h (by rw [z, use])
    exact ⟨hi, by rw [usk i hi] at h; exact h⟩
  refine ⟨⟨a1.erase e, ?_, ?_⟩, ?_, ?_, d, ?_, ?_, g1'.2, ?_, ?_, g4⟩
  · intro i
    rw [a1.mem_erase_iff, a2 i]
    constructor
    · rintro ⟨h, h1, h2, h3⟩
      exact ⟨h1, by rw [usk i h]; exact h2, h3⟩
    · rintro ⟨h1, h2, h3⟩
      have := usn i h2
      exact ⟨this.1, h1, this.2, h3⟩
  · intro q hq i
    rw [a3 q hq i]
    constructor
    · rintro ⟨h1, h2, h3, h4⟩
      exact ⟨h1, by rw [usk i (fun z => h3 (by rw [z]; exact hd))]; exact h2, h3, h4⟩
    · rintro ⟨h1, h2, h3⟩
      exact ⟨h1, (usn i h2).2, h3⟩
  · intro i hi hu
    exact b i hi (usn i hu).2
  · intro q hq
    exact ⟨(c q hq).1, fun i hi j hj => (c q hq).2 i hi j (List.mem_of_mem_erase hj)⟩
  · intro q hq i hi
    rcases e' q hq i hi with h | ⟨k, hk, h1, h2, h3⟩
    · exact Or.inl h
    · refine Or.inr ⟨k, hk, h1, ?_, h3⟩
      rw [usk k (fun z => g3 q hq i hi e List.mem_cons_self (by rw [h1, z]))]
      exact h2
  · intro i hi
    exact f i (List.mem_of_mem_erase hi)
  · intro k hk
    have := g2 k (List.mem_cons_of_mem _ hk)
    refine ⟨this.1, ?_⟩
    rw [usk k (fun z => g1'.1 (z ▸ hk))]
    exact this.2
  · intro q hq i hi k hk
    exact g3 q hq i hi k (List.mem_cons_of_mem _ hk)
theorem tw_pop_c {e : Nat} {H : Nat → List tw_Ev} (he : e ∈ P) (C : tw_CE tg dl mk inj H (P.map E) ((e :: S).map E)) : tw_CE tg dl mk inj H ((P.erase e).map E) (S.map E) := by
  intro c
  have h0 := C c
  have h1 : (P.map E).count c = ((P.erase e).map E).count c + [E e].count c := by
    rw [((List.perm_cons_erase he).map E).count_eq c]
    show List.count c ([E e] ++ (P.erase e).map E) = _
    rw [List.count_append, Nat.add_comm]
  have h2 : ((e :: S).map E).count c = (S.map E).count c + [E e].count c := by
    show List.count c ([E e] ++ S.map E) = _
    rw [List.count_append, Nat.add_comm]
  omega
end
end
section
section
variable {tg dl mk : Nat → Int32} {inj : List tw_Ev} {F : Nat → List tw_Ev} {ln : Int} {x : Nat} {D : Nat → List Nat} {P S : List Nat} {E : Nat → tw_Ev} {us dn be se no : Nat → Int32}
theorem tw_so_cg {E' : Nat → tw_Ev} {i j : Nat} (hi : E' i = E i) (hj : E' j = E j) (h : tw_so E i j) : tw_so E' i j := by
  unfold tw_so at *
  rw [hi, hj]
  exact h
theorem tw_new {e : Nat} {E' : Nat → tw_Ev} (I : tw_iv tg dl mk F ln 96 D P [] E us dn be se no) (he : e < 96) (hu : us e = 0)
    (hk : ∀ i, i ≠ e → E' i = E i) (ho : tw_ok (E' e)) (hl : ln < tw_t (E' e)) (hp : ∃ p, p < 4 ∧ (E' e).2.1 = nI p) :
    tw_iv tg dl mk F ln e D (e :: P) [] E' (upd us e 1) (upd dn e 0) be (upd se e (-1)) no := by
  obtain ⟨⟨a1, a2, a3⟩, b, c, d, e', f, g1, g2, g3, g4⟩ := I
  have eP : e ∉ P := fun h => ((a2 e).mp h).2.1 hu
  have eD : ∀ p, p < 4 → ∀ i ∈ D p, i ≠ e := fun p hp i hi z => ((a3 p hp i).mp hi).2.1 (by rw [z]; exact hu)
  have nP : ∀ i ∈ P, i ≠ e := fun i hi z => eP (z ▸ hi)
  refine ⟨⟨List.nodup_cons.mpr ⟨eP, a1⟩, ?_, ?_⟩, ?_, ?_, ?_, ?_, ?_, List.nodup_nil, fun k hk => absurd hk List.not_mem_nil, fun q hq i hi k hk => absurd hk List.not_mem_nil, ?_⟩
  · intro i
    by_cases hi : i = e
    · rw [hi, tw_us, tw_us]
      exact ⟨fun _ => ⟨he, by decide, rfl⟩, fun _ => List.mem_cons_self⟩
    · rw [List.mem_cons, tw_un hi, tw_un hi, a2 i]
      exact ⟨fun h => h.elim (fun z => absurd z hi) id, Or.inr⟩
  · intro q hq i
    by_cases hi : i = e
    · rw [hi, tw_us, tw_us]
      exact ⟨fun h => absurd rfl (eD q hq e h), fun h => absurd rfl h.2.2.1⟩
    · rw [tw_un hi, tw_un hi, hk i hi]
      exact a3 q hq i
  · intro i hi hui
    by_cases hie : i = e
    · rw [hie]; exact ⟨ho, hl, hp⟩
    · rw [tw_un hie] at hui
      rw [hk i hie]
      exact b i hi hui
  · intro q hq
    refine ⟨(c q hq).1.imp_of_mem (fun hi hj h => tw_so_cg (hk _ (eD q hq _ hi)) (hk _ (eD q hq _ hj)) h), ?_⟩
    intro i hi j hj hx hpj
    have hj' : j ∈ P := (List.mem_cons.mp hj).elim (fun z => absurd z hx) id
    have hjP := (a2 j).mp hj'
    rw [hk j hx] at hpj
    exact tw_so_cg (hk i (eD q hq i hi)) (hk j hx) ((c q hq).2 i hi j hj' (by omega) hpj)
  · intro q hq
    exact tw_chn_cg (fun i hi => ⟨rfl, hk i (eD q hq i hi)⟩) (d q hq)
  · intro q hq i hi
    have hie := eD q hq i hi
    rw [hk i hie, tw_un hie]
    rcases e' q hq i hi with h | ⟨k, hk1, h1, h2, h3⟩
    · exact Or.inl h
    · have hke : k ≠ e := fun z => h2 (by rw [z]; exact hu)
      exact Or.inr ⟨k, hk1, h1, by rw [tw_un hke]; exact h2, by rw [hk k hke]; exact h3⟩
  · intro i hi
    by_cases hie : i = e
    · rw [hie, tw_us]
    · rw [tw_un hie]
      exact f i ((List.mem_cons.mp hi).elim (fun z => absurd z hie) id)
  · intro q hq r hr i hi j hj h
    rw [tw_un (eD q hq i hi), tw_un (eD r hr j hj)] at h
    rw [tw_un (eD q hq i hi)]
    exact g4 q hq r hr i hi j hj h
theorem tw_map_cg {E' : Nat → tw_Ev} {l : List Nat} (h : ∀ i ∈ l, E' i = E i) : l.map E' = l.map E := List.map_congr_left h
theorem tw_new_c {e : Nat} {E' : Nat → tw_Ev} (A : tw_iA D P E us dn) (hu : us e = 0) (hk : ∀ i, i ≠ e → E' i = E i)
    (C : tw_CE tg dl mk inj (tw_hh F D E) (P.map E) []) : tw_CE tg dl mk inj (tw_hh F D E') ((e :: P).map E') [E' e] := by
  obtain ⟨a1, a2, a3⟩ := A
  have nP : ∀ i ∈ P, i ≠ e := fun i hi z => ((a2 i).mp hi).2.1 (by rw [z]; exact hu)
  have eD : ∀ p, p < 4 → ∀ i ∈ D p, i ≠ e := fun p hp i hi z => ((a3 p hp i).mp hi).2.1 (by rw [z]; exact hu)
  intro c
  have h0 := C c
  have h1 : ((e :: P).map E').count c = (P.map E).count c + [E' e].count c := by
    show List.count c ([E' e] ++ P.map E') = _
    rw [List.count_append, Nat.add_comm, tw_map_cg (fun i hi => hk i (nP i hi))]
  have hh : ∀ p, p < 4 → tw_hh F D E' p = tw_hh F D E p := by
    intro p hp
    show F p ++ (D p).map E' = F p ++ (D p).map E
    rw [tw_map_cg (fun i hi => hk i (eD p hp i hi))]
  have h2 : tw_s4 (fun p => (tw_hh F D E' p).count c) = tw_s4 (fun p => (tw_hh F D E p).count c) := tw_s4_c (fun p hp => by rw [hh p hp])
  have h3 : tw_s4 (fun p => (tw_kds tg dl mk p 0 (tw_hh F D E' p)).count c) = tw_s4 (fun p => (tw_kds tg dl mk p 0 (tw_hh F D E p)).count c) := tw_s4_c (fun p hp => by rw [hh p hp])
  rw [h1, h2, h3]
  rw [List.count_nil] at h0
  omega
theorem tw_inj_c {c : tw_Ev} {H : Nat → List tw_Ev} {Q : List tw_Ev} (C : tw_CE tg dl mk inj H Q [c]) : tw_CE tg dl mk (inj ++ [c]) H Q [] := by
  intro d
  have := C d
  rw [List.count_append, List.count_nil]
  omega
theorem tw_hnd {e p : Nat} {v : Int32} (I : tw_iv tg dl mk F ln x D P [] E us dn be se no) (hp : p < 4) (he : e ∈ P) (hx : e ≠ x) (hpe : (E e).2.1 = nI p)
    (hmin : ∀ j ∈ P, j ≠ x → (E j).2.1 = nI p → j = e ∨ tw_so E e j)
    (hsn : tw_sn E us v (tw_chd tg dl mk p (tw_stp (no p) (E e).2.2.1) (E e))) (hv : ∀ q, q < 4 → ∀ i ∈ D q, se i = v → v = -1) :
    tw_iv tg dl mk F ln x (tw_ud D p (D p ++ [e])) (P.erase e) [] E us (upd dn e 1) (upd be e (no p)) (upd se e v) (upd no p (tw_stp (no p) (E e).2.2.1)) := by
  obtain ⟨⟨a1, a2, a3⟩, b, c, d, e', f, g1, g2, g3, g4⟩ := I
  have em := (a2 e).mp he
  have nD : ∀ q, q < 4 → ∀ i ∈ D q, i ≠ e := fun q hq i hi z => ((a3 q hq i).mp hi).2.2.1 (by rw [z]; exact em.2.2)
  have sub : ∀ q, q < 4 → ∀ i, i ∈ tw_ud D p (D p ++ [e]) q ↔ i ∈ D q ∨ (i = e ∧ q = p) := by
    intro q hq i
    by_cases hqp : q = p
    · rw [hqp, tw_ud_s, List.mem_append, List.mem_singleton]
      exact ⟨fun h => h.elim Or.inl (fun z => Or.inr ⟨z, rfl⟩), fun h => h.elim Or.inl (fun z => Or.inr z.1)⟩
    · rw [tw_ud_n hqp]
      exact ⟨Or.inl, fun h => h.elim id (fun z => absurd z.2 hqp)⟩
  refine ⟨⟨a1.erase e, ?_, ?_⟩, b, ?_, ?_, ?_, ?_, List.nodup_nil, fun k hk => absurd hk List.not_mem_nil, fun q hq i hi k hk => absurd hk List.not_mem_nil, ?_⟩
  · intro i
    rw [a1.mem_erase_iff, a2 i]
    by_cases hi : i = e
    · rw [hi, tw_us]
      exact ⟨fun h => absurd rfl h.1, fun h => absurd h.2.2 (by decide)⟩
    · rw [tw_un hi]
      exact ⟨fun h => h.2, fun h => ⟨hi, h⟩⟩
  · intro q hq i
    rw [sub q hq i, a3 q hq i]
    by_cases hi : i = e
    · rw [hi, tw_us]
      constructor
      · rintro (h | h)
        · exact absurd em.2.2 h.2.2.1
        · exact ⟨em.1, em.2.1, by decide, by rw [h.2]; exact hpe⟩
      · intro h
        right
        refine ⟨rfl, ?_⟩
        have h4 := h.2.2.2
        rw [hpe] at h4
        exact (tw_ni (by omega) (by omega) h4).symm
    · rw [tw_un hi]
      exact ⟨fun h => h.elim id (fun z => absurd z.1 hi), Or.inl⟩
  · intro q hq
    constructor
    · by_cases hqp : q = p
      · rw [hqp, tw_ud_s]
        rw [List.pairwise_append]
        refine ⟨(c p hp).1, List.pairwise_singleton _ _, fun i hi j hj => ?_⟩
        rw [List.mem_singleton] at hj
        rw [hj]
        exact (c p hp).2 i hi e he hx hpe
      · rw [tw_ud_n hqp]
        exact (c q hq).1
    · intro i hi j hj hjx hpj
      have hjP := List.mem_of_mem_erase hj
      have hje := (a1.mem_erase_iff.mp hj).1
      rcases (sub q hq i).mp hi with h | ⟨h1, h2⟩
      · exact (c q hq).2 i h j hjP hjx hpj
      · rw [h1]
        rw [h2] at hpj
        exact (hmin j hjP hjx hpj).elim (fun z => absurd z hje) id
  · intro q hq
    by_cases hqp : q = p
    · rw [hqp, tw_ud_s, tw_us]
      rw [tw_chn_app]
      refine ⟨no p, tw_chn_cg (fun i hi => ⟨tw_un (nD p hp i hi), rfl⟩) (d p hp), ?_⟩
      exact ⟨tw_us, rfl⟩
    · rw [tw_ud_n hqp, tw_un hqp]
      exact tw_chn_cg (fun i hi => ⟨tw_un (nD q hq i hi), rfl⟩) (d q hq)
  · intro q hq i hi
    rcases (sub q hq i).mp hi with h | ⟨h1, h2⟩
    · rw [tw_un (nD q hq i h), tw_un (nD q hq i h)]
      exact e' q hq i h
    · rw [h1, h2, tw_us, tw_us]
      exact hsn
  · intro i hi
    have := a1.mem_erase_iff.mp hi
    rw [tw_un this.1]
    exact f i this.2
  · intro q hq r hr i hi j hj h
    rcases (sub q hq i).mp hi with h1 | ⟨h1, h2⟩
    · rcases (sub r hr j).mp hj with k1 | ⟨k1, k2⟩
      · rw [tw_un (nD q hq i h1), tw_un (nD r hr j k1)] at h
        rw [tw_un (nD q hq i h1)]
        exact g4 q hq r hr i h1 j k1 h
      · rw [tw_un (nD q hq i h1), k1, tw_us] at h
        rw [tw_un (nD q hq i h1), h]
        exact Or.inl (hv q hq i h1 h)
    · rcases (sub r hr j).mp hj with k1 | ⟨k1, k2⟩
      · rw [tw_un (nD r hr j k1), h1, tw_us] at h
        rw [h1, tw_us]
        exact Or.inl (hv r hr j k1 h.symm)
      · exact Or.inr (h1.trans k1.symm)
theorem tw_hnd_c {e p : Nat} (he : e ∈ P) (hp : p < 4) (d : tw_iD F D E be no)
    (C : tw_CE tg dl mk inj (tw_hh F D E) (P.map E) (tw_chd tg dl mk p (tw_stp (no p) (E e).2.2.1) (E e))) :
    tw_CE tg dl mk inj (tw_hh F (tw_ud D p (D p ++ [e])) E) ((P.erase e).map E) [] := by
  intro c
  have h0 := C c
  have hm : tw_run 0 (F p ++ (D p).map E) = no p := by rw [tw_run_app, ← tw_chn_run (d p hp)]
  have u1 := tw_s4_u (f := fun q => (tw_hh F D E q).count c) (g := fun q => (tw_hh F (tw_ud D p (D p ++ [e])) E q).count c) hp (fun q _ hn => by
    show List.count c (F q ++ (tw_ud D p (D p ++ [e]) q).map E) = List.count c (F q ++ (D q).map E)
    rw [tw_ud_n hn])
  have u2 := tw_s4_u (f := fun q => (tw_kds tg dl mk q 0 (tw_hh F D E q)).count c) (g := fun q => (tw_kds tg dl mk q 0 (tw_hh F (tw_ud D p (D p ++ [e])) E q)).count c) hp (fun q _ hn => by
    show List.count c (tw_kds tg dl mk q 0 (F q ++ (tw_ud D p (D p ++ [e]) q).map E)) = List.count c (tw_kds tg dl mk q 0 (F q ++ (D q).map E))
    rw [tw_ud_n hn])
  have eo : tw_hh F (tw_ud D p (D p ++ [e])) E p = tw_hh F D E p ++ [E e] := by
    show F p ++ (tw_ud D p (D p ++ [e]) p).map E = (F p ++ (D p).map E) ++ [E e]
    rw [tw_ud_s, List.map_append, List.append_assoc]; rfl
  have v1 : (tw_hh F (tw_ud D p (D p ++ [e])) E p).count c = (tw_hh F D E p).count c + [E e].count c := by rw [eo, List.count_append]
  have v2 : (tw_kds tg dl mk p 0 (tw_hh F (tw_ud D p (D p ++ [e])) E p)).count c = (tw_kds tg dl mk p 0 (tw_hh F D E p)).count c + (tw_chd tg dl mk p (tw_stp (no p) (E e).2.2.1) (E e)).count c := by
    rw [eo, tw_kds_app, List.count_append]
    have hm' : tw_run 0 (tw_hh F D E p) = no p := hm
    rw [hm']
    show _ + List.count c (tw_chd tg dl mk p (tw_stp (no p) (E e).2.2.1) (E e) ++ []) = _
    rw [List.append_nil]
  have h1 : (P.map E).count c = ((P.erase e).map E).count c + [E e].count c := by
    rw [((List.perm_cons_erase he).map E).count_eq c]
    show List.count c ([E e] ++ (P.erase e).map E) = _
    rw [List.count_append, Nat.add_comm]
  rw [List.count_nil]
  omega
theorem tw_drop (I : tw_iv tg dl mk F ln x D P S E us dn be se no) (h : x ∈ P → ∀ p, p < 4 → (E x).2.1 = nI p → ∀ i ∈ D p, tw_so E i x) :
    tw_iv tg dl mk F ln 96 D P S E us dn be se no := by
  obtain ⟨a, b, c, r⟩ := I
  refine ⟨a, b, fun q hq => ⟨(c q hq).1, fun i hi j hj _ hpj => ?_⟩, r⟩
  by_cases hjx : j = x
  · rw [hjx] at hj hpj ⊢
    exact h hj q hq hpj i hi
  · exact (c q hq).2 i hi j hj hjx hpj
theorem tw_weak (x : Nat) (I : tw_iv tg dl mk F ln 96 D P S E us dn be se no) : tw_iv tg dl mk F ln x D P S E us dn be se no := by
  obtain ⟨a, b, c, r⟩ := I
  refine ⟨a, b, fun q hq => ⟨(c q hq).1, fun i hi j hj _ hpj => (c q hq).2 i hi j hj ?_ hpj⟩, r⟩
  have := (a.2.1 j).mp hj
  omega
/-- nothing is there -/
theorem tw_empty (hu : ∀ i, i < 96 → us i = 0) (hF : ∀ p, p < 4 → no p = tw_run 0 (F p)) : tw_iv tg dl mk F ln 96 (fun _ => []) [] [] E us dn be se no := by
  refine ⟨⟨List.nodup_nil, fun i => ⟨fun h => absurd h List.not_mem_nil, fun h => absurd (hu i h.1) h.2.1⟩, fun p hp i => ⟨fun h => absurd h List.not_mem_nil, fun h => absurd (hu i h.1) h.2.1⟩⟩, fun i hi h => absurd (hu i hi) h, ?_, ?_, ?_, ?_, List.nodup_nil, ?_, ?_, ?_⟩
  · exact fun p hp => ⟨List.Pairwise.nil, fun i hi => absurd hi List.not_mem_nil⟩
  · exact fun p hp => hF p hp
  · exact fun p hp i hi => absurd hi List.not_mem_nil
  · exact fun i hi => absurd hi List.not_mem_nil
  · exact fun i hi => absurd hi List.not_mem_nil
  · exact fun p hp i hi => absurd hi List.not_mem_nil
  · exact fun p hp q hq i hi => absurd hi List.not_mem_nil
/-- the fold up to T: D p = A p ++ B p -/
theorem tw_fold {T : Int} {A B : Nat → List Nat} {us' : Nat → Int32} (I : tw_iv tg dl mk F ln 96 D P [] E us dn be se no) (hT : ln ≤ T)
    (hD : ∀ p, p < 4 → D p = A p ++ B p) (hA : ∀ p, p < 4 → ∀ i ∈ A p, tw_t (E i) ≤ T) (hB : ∀ p, p < 4 → ∀ i ∈ B p, T < tw_t (E i)) (hP : ∀ i ∈ P, T < tw_t (E i))
    (hus : ∀ i, i < 96 → us' i = if us i ≠ 0 ∧ tw_t (E i) ≤ T then 0 else us i) (R : tw_ru tg dl mk) :
    tw_iv tg dl mk (fun p => F p ++ (A p).map E) T 96 B P [] E us' dn be se no := by
  obtain ⟨⟨a1, a2, a3⟩, b, c, d, e', f, g1, g2, g3, g4⟩ := I
  have u1 : ∀ i, i < 96 → (us' i ≠ 0 ↔ us i ≠ 0 ∧ T < tw_t (E i)) := by
    intro i hi
    rw [hus i hi]
    by_cases h : us i ≠ 0 ∧ tw_t (E i) ≤ T
    · rw [if_pos h]
      exact ⟨fun z => absurd rfl z, fun z => absurd z.2 (by have := h.2; omega)⟩
    · rw [if_neg h]
      constructor
      · intro z
        refine ⟨z, ?_⟩
        by_cases y : tw_t (E i) ≤ T
        · exact absurd ⟨z, y⟩ h
        · omega
      · exact fun z => z.1
  have BD : ∀ p, p < 4 → ∀ i, i ∈ B p ↔ i ∈ D p ∧ T < tw_t (E i) := by
    intro p hp i
    rw [hD p hp, List.mem_append]
    constructor
    · exact fun h => ⟨Or.inr h, hB p hp i h⟩
    · rintro ⟨h | h, t⟩
      · have := hA p hp i h; omega
      · exact h
  refine ⟨⟨a1, ?_, ?_⟩, ?_, ?_, ?_, ?_, f, List.nodup_nil, fun k hk => absurd hk List.not_mem_nil, fun q hq i hi k hk => absurd hk List.not_mem_nil, ?_⟩
  · intro i
    constructor
    · intro h
      have h1 := (a2 i).mp h
      exact ⟨h1.1, (u1 i h1.1).mpr ⟨h1.2.1, hP i h⟩, h1.2.2⟩
    · rintro ⟨h1, h2, h3⟩
      exact (a2 i).mpr ⟨h1, ((u1 i h1).mp h2).1, h3⟩
  · intro p hp i
    rw [BD p hp i, a3 p hp i]
    constructor
    · rintro ⟨⟨h1, h2, h3, h4⟩, t⟩
      exact ⟨h1, (u1 i h1).mpr ⟨h2, t⟩, h3, h4⟩
    · rintro ⟨h1, h2, h3, h4⟩
      have := (u1 i h1).mp h2
      exact ⟨⟨h1, this.1, h3, h4⟩, this.2⟩
  · intro i hi hu
    have := (u1 i hi).mp hu
    have bi := b i hi this.1
    exact ⟨bi.1, this.2, bi.2.2⟩
  · intro p hp
    have cp := (c p hp).1
    rw [hD p hp] at cp
    exact ⟨(List.pairwise_append.mp cp).2.1, fun i hi => (c p hp).2 i ((BD p hp i).mp hi).1⟩
  · intro p hp
    have dp := d p hp
    rw [hD p hp] at dp
    obtain ⟨m, m1, m2⟩ := tw_chn_app.mp dp
    show tw_chn be E (tw_run 0 (F p ++ (A p).map E)) (B p) (no p)
    rw [tw_run_app, ← tw_chn_run m1]
    exact m2
  · intro p hp i hi
    have hi' := (BD p hp i).mp hi
    have im := (a3 p hp i).mp hi'.1
    rcases e' p hp i hi'.1 with h | ⟨k, hk, h1, h2, h3⟩
    · exact Or.inl h
    · refine Or.inr ⟨k, hk, h1, (u1 k hk).mpr ⟨h2, ?_⟩, h3⟩
      rcases tw_chd_c (tw_stp (be i) (E i).2.2.1) R hp (b i im.1 im.2.1).1 with z | ⟨c', z, _, t, _⟩
      · rw [z] at h3; exact absurd h3 (by simp)
      · rw [z] at h3
        have : c' = E k := by simpa using h3
        rw [this] at t
        have := hi'.2
        omega
  · intro p hp q hq i hi j hj
    exact g4 p hp q hq i ((BD p hp i).mp hi).1 j ((BD q hq j).mp hj).1
theorem tw_fold_h {A B : Nat → List Nat} (hD : ∀ p, p < 4 → D p = A p ++ B p) : ∀ p, p < 4 → tw_hh (fun p => F p ++ (A p).map E) B E p = tw_hh F D E p := by
  intro p hp
  show (F p ++ (A p).map E) ++ (B p).map E = F p ++ (D p).map E
  rw [hD p hp, List.map_append, List.append_assoc]
theorem tw_CE_cg {H H' : Nat → List tw_Ev} {Q K : List tw_Ev} (h : ∀ p, p < 4 → H' p = H p) (C : tw_CE tg dl mk inj H Q K) : tw_CE tg dl mk inj H' Q K := by
  intro c
  have h0 := C c
  have h2 : tw_s4 (fun p => (H' p).count c) = tw_s4 (fun p => (H p).count c) := tw_s4_c (fun p hp => by rw [h p hp])
  have h3 : tw_s4 (fun p => (tw_kds tg dl mk p 0 (H' p)).count c) = tw_s4 (fun p => (tw_kds tg dl mk p 0 (H p)).count c) := tw_s4_c (fun p hp => by rw [h p hp])
  rw [h2, h3]
  exact h0
end
end
section
def tw_ev (tm pr va li : Nat → Int32) (i : Nat) : tw_Ev := (tm i, pr i, va i, li i)
theorem tw_b0 : vp_nar .boolean 0 = 0 := rfl
theorem tw_b1 : vp_nar .boolean 1 = 1 := rfl
/-! the best of those below n that satisfy Q -/
def tw_best (Q : Nat → Prop) (lt : Nat → Nat → Prop) (n : Nat) (r : Int32) : Prop :=
  (r = -1 ∧ ∀ i, i < n → ¬ Q i) ∨ ∃ b, b < n ∧ r = nI b ∧ Q b ∧ ∀ i, i < n → Q i → i = b ∨ lt b i
section
variable {Q : Nat → Prop} {lt : Nat → Nat → Prop} {n : Nat} {r : Int32}
theorem tw_best_0 : tw_best Q lt 0 (-1) := Or.inl ⟨rfl, fun i h => absurd h (by omega)⟩
theorem tw_best_s (h : tw_best Q lt n r) (q : ¬ Q n) : tw_best Q lt (n + 1) r := by
  rcases h with ⟨h1, h2⟩ | ⟨b, h1, h2, h3, h4⟩
  · refine Or.inl ⟨h1, fun i hi => ?_⟩
    by_cases c : i = n
    · rw [c]; exact q
    · exact h2 i (by omega)
  · refine Or.inr ⟨b, by omega, h2, h3, fun i hi hq => ?_⟩
    by_cases c : i = n
    · rw [c] at hq; exact absurd hq q
    · exact h4 i (by omega) hq
theorem tw_best_t (h : ∀ i, i < n → ¬ Q i) (q : Q n) : tw_best Q lt (n + 1) (nI n) := by
  refine Or.inr ⟨n, by omega, rfl, q, fun i hi hq => ?_⟩
  by_cases c : i = n
  · exact Or.inl c
  · exact absurd hq (h i (by omega))
theorem tw_best_k {b : Nat} (h1 : b < n) (h2 : r = nI b) (h3 : Q b) (h4 : ∀ i, i < n → Q i → i = b ∨ lt b i) (l : lt b n) : tw_best Q lt (n + 1) r := by
  refine Or.inr ⟨b, by omega, h2, h3, fun i hi hq => ?_⟩
  by_cases c : i = n
  · rw [c]; exact Or.inr l
  · exact h4 i (by omega) hq
theorem tw_best_n {b : Nat} (tr : ∀ i j k, lt i j → lt j k → lt i k) (h4 : ∀ i, i < n → Q i → i = b ∨ lt b i) (q : Q n) (l : lt n b) : tw_best Q lt (n + 1) (nI n) := by
  refine Or.inr ⟨n, by omega, rfl, q, fun i hi hq => ?_⟩
  by_cases c : i = n
  · exact Or.inl c
  · rcases h4 i (by omega) hq with z | z
    · rw [z]; exact Or.inr l
    · exact Or.inr (tr _ _ _ l z)
end
section
variable {fi fl fo fr : Int32} {tg dl mk us tm pr va li dn be se no fs fc rc : Nat → Int32}
theorem tw_sooner {post : Int32 → Prop} {i j : Nat} (hi : i < 96) (hj : j < 96) (h1 : tw_so (tw_ev tm pr va li) i j → post 1) (h0 : ¬ tw_so (tw_ev tm pr va li) i j → post 0) :
    wpX_sooner post (fi, fl, fo, fr, tg, dl, mk, us, tm, pr, va, li, dn, be, se, no, fs, fc, rc) (nI i) (nI j) := by
  have ci : (nI i).toNatClampNeg = i := nI_clamp (by omega)
  have cj : (nI j).toNatClampNeg = j := nI_clamp (by omega)
  have vi : vp_in (nI i) 96 := vp_in_nI hi (by decide)
  have vj : vp_in (nI j) 96 := vp_in_nI hj (by decide)
  have ex : tw_so (tw_ev tm pr va li) i j ↔ ((tm i).toInt < (tm j).toInt ∨ ((tm i).toInt = (tm j).toInt ∧ ((va i).toInt < (va j).toInt ∨ ((va i).toInt = (va j).toInt ∧ (li i).toInt < (li j).toInt)))) ∨ (¬ ((tm j).toInt < (tm i).toInt ∨ ((tm j).toInt = (tm i).toInt ∧ ((va j).toInt < (va i).toInt ∨ ((va j).toInt = (va i).toInt ∧ (li j).toInt < (li i).toInt)))) ∧ i < j) := Iff.rfl
  rw [ex] at h1 h0
  have it : ∀ f : Nat → Int32, f i = f j ↔ (f i).toInt = (f j).toInt := fun f => Int32.toInt_inj.symm
  have le : ∀ f : Nat → Int32, f j ≤ f i ↔ (f j).toInt ≤ (f i).toInt := fun f => Int32.le_iff_toInt_le
  have lij : nI j ≤ nI i ↔ j ≤ i := nI_leI (by omega) (by omega)
  unfold wpX_sooner
  dsimp only
  rw [ci, cj, it tm, it va, it li, le tm, le va, le li, lij]
  generalize (tm i).toInt = a1 at *
  generalize (tm j).toInt = a2 at *
  generalize (va i).toInt = b1 at *
  generalize (va j).toInt = b2 at *
  generalize (li i).toInt = c1 at *
  generalize (li j).toInt = c2 at *
  refine ⟨vi, vj, br_c (fun a => ⟨vi, vj, br_c (fun b => ⟨vi, vj, br_c (fun c => br_c (fun d => h0 (by omega)) (fun d => h1 (by omega))) (fun c => ⟨vi, vj, br_c (fun d => h0 (by omega)) (fun d => h1 (by omega))⟩)⟩) (fun b => ⟨vi, vj, br_c (fun d => h0 (by omega)) (fun d => h1 (by omega))⟩)⟩) (fun a => ⟨vi, vj, br_c (fun d => h0 (by omega)) (fun d => h1 (by omega))⟩)⟩
def tw_Qn (us dn pr : Nat → Int32) (x1 : Int32) (i : Nat) : Prop := us i ≠ 0 ∧ dn i = 0 ∧ pr i = x1
def tw_Ql (us dn pr : Nat → Int32) (x1 : Int32) (i : Nat) : Prop := us i ≠ 0 ∧ dn i ≠ 0 ∧ pr i = x1
def tw_Qs (us dn pr tm : Nat → Int32) (x1 x2 : Int32) (i : Nat) : Prop := us i ≠ 0 ∧ dn i ≠ 0 ∧ pr i = x1 ∧ ¬ tm i ≤ x2
theorem tw_r_neg {b : Nat} (h : b < 96) : ¬ nI b < 0 := nI_pos (by omega)
theorem tw_nextOf_l {post : Int32 → Prop} {x1 : Int32} (K : ∀ r, tw_best (tw_Qn us dn pr x1) (tw_so (tw_ev tm pr va li)) 96 r → post r) :
    ∀ (m i : Nat) (r : Int32), i + m = 96 → tw_best (tw_Qn us dn pr x1) (tw_so (tw_ev tm pr va li)) i r → wX_nextOf_4 post x1 fi fl fo fr tg dl mk us tm pr va li dn be se no fs fc rc (m + 1) r (nI i) := by
  intro m
  induction m with
  | zero =>
    intro i r hi h
    have h96 : i = 96 := by omega
    rw [h96] at h ⊢
    exact br_t (by decide) (K r h)
  | succ m ih =>
    intro i r hi h
    have hge : ¬ (96 : Int32) ≤ nI i := nI_ge (b := 96) (by omega) (by decide)
    have cl : (nI i).toNatClampNeg = i := nI_clamp (by omega)
    have vi : vp_in (nI i) 96 := vp_in_nI (by omega) (by decide)
    have nx : ∀ r', tw_best (tw_Qn us dn pr x1) (tw_so (tw_ev tm pr va li)) (i + 1) r' → ∀ y, y = nI i + 1 → wX_nextOf_4 post x1 fi fl fo fr tg dl mk us tm pr va li dn be se no fs fc rc (m + 1) r' y := fun r' h' => nm_r (nI_1 i) (ih (i + 1) r' (by omega) h')
    rw [wX_nextOf_4]; dsimp only; rw [cl]
    refine br_f hge ⟨vi, ?_⟩
    by_cases hu : us i = 0
    · exact br_t hu (nx r (tw_best_s h (fun q => q.1 hu)))
    refine br_f hu ⟨vi, ?_⟩
    by_cases hd : dn i = 0
    · refine br_t hd ⟨vi, ?_⟩
      by_cases hp : pr i = x1
      · refine br_t hp ?_
        rcases h with ⟨h1, h2⟩ | ⟨b, h1, h2, h3, h4⟩
        · rw [h1]
          exact br_t (by decide) (nx _ (tw_best_t h2 ⟨hu, hd, hp⟩))
        · rw [h2]
          refine br_f (tw_r_neg (by omega)) ?_
          refine tw_sooner (by omega) (by omega) (fun s => ?_) (fun s => ?_)
          · exact br_f (by decide) (nx _ (tw_best_n (fun _ _ _ => tw_so_tr) h4 ⟨hu, hd, hp⟩ s))
          · exact br_t rfl (nx _ (tw_best_k h1 rfl h3 h4 ((tw_so_tot (by omega)).resolve_left s)))
      · exact br_f hp (nx r (tw_best_s h (fun q => hp q.2.2)))
    · exact br_f hd (nx r (tw_best_s h (fun q => hd q.2.1)))
theorem tw_nextOf {post : Int32 → Prop} {x1 : Int32} (K : ∀ r, tw_best (tw_Qn us dn pr x1) (tw_so (tw_ev tm pr va li)) 96 r → post r) : wpX_nextOf post (fi, fl, fo, fr, tg, dl, mk, us, tm, pr, va, li, dn, be, se, no, fs, fc, rc) x1 :=
  ⟨97, tw_nextOf_l K 96 0 (-1) rfl tw_best_0⟩
theorem tw_lastOf_l {post : Int32 → Prop} {x1 : Int32} (K : ∀ r, tw_best (tw_Ql us dn pr x1) (fun a b => tw_so (tw_ev tm pr va li) b a) 96 r → post r) :
    ∀ (m i : Nat) (r : Int32), i + m = 96 → tw_best (tw_Ql us dn pr x1) (fun a b => tw_so (tw_ev tm pr va li) b a) i r → wX_lastOf_4 post x1 fi fl fo fr tg dl mk us tm pr va li dn be se no fs fc rc (m + 1) r (nI i) := by
  intro m
  induction m with
  | zero =>
    intro i r hi h
    have h96 : i = 96 := by omega
    rw [h96] at h ⊢
    exact br_t (by decide) (K r h)
  | succ m ih =>
    intro i r hi h
    have hge : ¬ (96 : Int32) ≤ nI i := nI_ge (b := 96) (by omega) (by decide)
    have cl : (nI i).toNatClampNeg = i := nI_clamp (by omega)
    have vi : vp_in (nI i) 96 := vp_in_nI (by omega) (by decide)
    have nx : ∀ r', tw_best (tw_Ql us dn pr x1) (fun a b => tw_so (tw_ev tm pr va li) b a) (i + 1) r' → ∀ y, y = nI i + 1 → wX_lastOf_4 post x1 fi fl fo fr tg dl mk us tm pr va li dn be se no fs fc rc (m + 1) r' y := fun r' h' => nm_r (nI_1 i) (ih (i + 1) r' (by omega) h')
    rw [wX_lastOf_4]; dsimp only; rw [cl]
    refine br_f hge ⟨vi, ?_⟩
    by_cases hu : us i = 0
    · exact br_t hu (nx r (tw_best_s h (fun q => q.1 hu)))
    refine br_f hu ⟨vi, ?_⟩
    by_cases hd : dn i = 0
    · exact br_t hd (nx r (tw_best_s h (fun q => q.2.1 hd)))
    refine br_f hd ⟨vi, ?_⟩
    by_cases hp : pr i = x1
    · refine br_t hp ?_
      rcases h with ⟨h1, h2⟩ | ⟨b, h1, h2, h3, h4⟩
      · rw [h1]
        exact br_t (by decide) (nx _ (tw_best_t h2 ⟨hu, hd, hp⟩))
      · rw [h2]
        refine br_f (tw_r_neg (by omega)) ?_
        refine tw_sooner (by omega) (by omega) (fun s => ?_) (fun s => ?_)
        · exact br_f (by decide) (nx _ (tw_best_n (fun _ _ _ x y => tw_so_tr y x) h4 ⟨hu, hd, hp⟩ s))
        · exact br_t rfl (nx _ (tw_best_k h1 rfl h3 h4 ((tw_so_tot (by omega)).resolve_left s)))
    · exact br_f hp (nx r (tw_best_s h (fun q => hp q.2.2)))
theorem tw_lastOf {post : Int32 → Prop} {x1 : Int32} (K : ∀ r, tw_best (tw_Ql us dn pr x1) (fun a b => tw_so (tw_ev tm pr va li) b a) 96 r → post r) : wpX_lastOf post (fi, fl, fo, fr, tg, dl, mk, us, tm, pr, va, li, dn, be, se, no, fs, fc, rc) x1 :=
  ⟨97, tw_lastOf_l K 96 0 (-1) rfl tw_best_0⟩
/-- stateAt: r is the first handled one behind x2, if there is one -/
theorem tw_stateAt_l {post : Int32 → Prop} {x1 x2 : Int32} (h1 : vp_in x1 4) (K0 : (∀ i, i < 96 → ¬ tw_Qs us dn pr tm x1 x2 i) → post (no x1.toNatClampNeg))
    (K1 : ∀ b, b < 96 → tw_Qs us dn pr tm x1 x2 b → (∀ i, i < 96 → tw_Qs us dn pr tm x1 x2 i → i = b ∨ tw_so (tw_ev tm pr va li) b i) → post (be b)) :
    ∀ (m i : Nat) (r : Int32), i + m = 96 → tw_best (tw_Qs us dn pr tm x1 x2) (tw_so (tw_ev tm pr va li)) i r → wX_stateAt_5 post x1 x2 fi fl fo fr tg dl mk us tm pr va li dn be se no fs fc rc (m + 1) r (nI i) := by
  intro m
  induction m with
  | zero =>
    intro i r hi h
    have h96 : i = 96 := by omega
    rw [h96] at h ⊢
    refine br_t (by decide) ?_
    rcases h with ⟨a, b⟩ | ⟨b, a1, a2, a3, a4⟩
    · rw [a]
      exact br_f (by decide) ⟨h1, K0 b⟩
    · rw [a2, nI_clamp (by omega)]
      exact br_t (nI_pos' (by omega)) ⟨vp_in_nI (by omega) (by decide), K1 b a1 a3 a4⟩
  | succ m ih =>
    intro i r hi h
    have hge : ¬ (96 : Int32) ≤ nI i := nI_ge (b := 96) (by omega) (by decide)
    have cl : (nI i).toNatClampNeg = i := nI_clamp (by omega)
    have vi : vp_in (nI i) 96 := vp_in_nI (by omega) (by decide)
    have nx : ∀ r', tw_best (tw_Qs us dn pr tm x1 x2) (tw_so (tw_ev tm pr va li)) (i + 1) r' → ∀ y, y = nI i + 1 → wX_stateAt_5 post x1 x2 fi fl fo fr tg dl mk us tm pr va li dn be se no fs fc rc (m + 1) r' y := fun r' h' => nm_r (nI_1 i) (ih (i + 1) r' (by omega) h')
    rw [wX_stateAt_5]; dsimp only; rw [cl]
    refine br_f hge ⟨vi, ?_⟩
    by_cases hu : us i = 0
    · exact br_t hu (nx r (tw_best_s h (fun q => q.1 hu)))
    refine br_f hu ⟨vi, ?_⟩
    by_cases hd : dn i = 0
    · exact br_t hd (nx r (tw_best_s h (fun q => q.2.1 hd)))
    refine br_f hd ⟨vi, ?_⟩
    by_cases hp : pr i = x1
    · refine br_t hp ⟨vi, ?_⟩
      by_cases ht : tm i ≤ x2
      · exact br_t ht (nx r (tw_best_s h (fun q => q.2.2.2 ht)))
      refine br_f ht ?_
      rcases h with ⟨h1, h2⟩ | ⟨b, h1, h2, h3, h4⟩
      · rw [h1]
        exact br_t (by decide) (nx _ (tw_best_t h2 ⟨hu, hd, hp, ht⟩))
      · rw [h2]
        refine br_f (tw_r_neg (by omega)) ?_
        refine tw_sooner (by omega) (by omega) (fun s => ?_) (fun s => ?_)
        · exact br_f (by decide) (nx _ (tw_best_n (fun _ _ _ => tw_so_tr) h4 ⟨hu, hd, hp, ht⟩ s))
        · exact br_t rfl (nx _ (tw_best_k h1 rfl h3 h4 ((tw_so_tot (by omega)).resolve_left s)))
    · exact br_f hp (nx r (tw_best_s h (fun q => hp q.2.2.1)))
theorem tw_stateAt {post : Int32 → Prop} {x1 x2 : Int32} (h1 : vp_in x1 4) (K0 : (∀ i, i < 96 → ¬ tw_Qs us dn pr tm x1 x2 i) → post (no x1.toNatClampNeg))
    (K1 : ∀ b, b < 96 → tw_Qs us dn pr tm x1 x2 b → (∀ i, i < 96 → tw_Qs us dn pr tm x1 x2 i → i = b ∨ tw_so (tw_ev tm pr va li) b i) → post (be b)) : wpX_stateAt post (fi, fl, fo, fr, tg, dl, mk, us, tm, pr, va, li, dn, be, se, no, fs, fc, rc) x1 x2 :=
  ⟨97, tw_stateAt_l h1 K0 K1 96 0 (-1) rfl tw_best_0⟩
end
end
section
def tw_rk (rc : Nat → Int32) : List Nat → Prop
  | [] => True
  | k :: S => rc S.length = nI k ∧ tw_rk rc S
theorem tw_rk_u {rc : Nat → Int32} {m : Nat} {v : Int32} : ∀ {S : List Nat}, S.length ≤ m → tw_rk rc S → tw_rk (upd rc m v) S := by
  intro S
  induction S with
  | nil => intro _ _; exact trivial
  | cons k S ih =>
    intro hl h
    have hl' : S.length + 1 ≤ m := hl
    refine ⟨?_, ih (by omega) h.2⟩
    rw [tw_un (by omega)]
    exact h.1
def tw_nu (us : Nat → Int32) : Nat → Nat
  | 0 => 0
  | n + 1 => tw_nu us n + if us n ≠ 0 then 1 else 0
theorem tw_nu_o {us : Nat → Int32} {e : Nat} {v : Int32} : ∀ n, n ≤ e → tw_nu (upd us e v) n = tw_nu us n := by
  intro n
  induction n with
  | zero => intro _; rfl
  | succ n ih =>
    intro h
    have hn : n ≠ e := by omega
    simp only [tw_nu]
    rw [ih (by omega), tw_un hn]
theorem tw_nu_u {us : Nat → Int32} {e : Nat} (hu : us e ≠ 0) : ∀ n, e < n → tw_nu (upd us e 0) n + 1 = tw_nu us n := by
  intro n
  induction n with
  | zero => intro h; omega
  | succ n ih =>
    intro h
    simp only [tw_nu]
    by_cases c : n = e
    · rw [c, tw_us, if_pos hu, if_neg (fun z => z rfl), tw_nu_o e (Nat.le_refl e)]
    · rw [tw_un c, ← ih (by omega)]
      omega
section
variable {tg dl mk : Nat → Int32} {inj : List tw_Ev} {F : Nat → List tw_Ev} {ln : Int} {x : Nat} {D : Nat → List Nat} {P S : List Nat} {E : Nat → tw_Ev} {us dn be se no : Nat → Int32}
theorem tw_n96 {l : List Nat} (h : l.Nodup) (hs : ∀ k ∈ l, k < 96) : l.length ≤ 96 := by
  have := h.length_le_of_subset (l₂ := List.range 96) (fun k hk => List.mem_range.mpr (hs k hk))
  rw [List.length_range] at this
  exact this
theorem tw_undo_step {p b : Nat} {L : List Nat} (R : tw_ru tg dl mk) (I : tw_iv tg dl mk F ln x D P S E us dn be se no) (C : tw_CE tg dl mk inj (tw_hh F D E) (P.map E) (S.map E)) (hp : p < 4) (hD : D p = L ++ [b]) :
    (se b = -1 ∧ tw_iv tg dl mk F ln x (tw_ud D p L) (b :: P) S E us (upd dn b 0) be se (upd no p (be b)) ∧ tw_CE tg dl mk inj (tw_hh F (tw_ud D p L) E) ((b :: P).map E) (S.map E)) ∨
    (∃ k, k < 96 ∧ se b = nI k ∧ S.length < 96 ∧ tw_t (E b) < tw_t (E k) ∧ tw_iv tg dl mk F ln x (tw_ud D p L) (b :: P) (k :: S) E us (upd dn b 0) be (upd se b (-1)) (upd no p (be b)) ∧ tw_CE tg dl mk inj (tw_hh F (tw_ud D p L) E) ((b :: P).map E) ((k :: S).map E)) := by
  have hb : b ∈ D p := by rw [hD]; exact List.mem_append_right _ List.mem_cons_self
  have I' := I
  obtain ⟨A, B, c, d, e', f, g⟩ := I
  have bm := (A.2.2 p hp b).mp hb
  rcases e' p hp b hb with ⟨h1, h2⟩ | ⟨k, hk, h1, h2, h3⟩
  · left
    have u := tw_undo (S' := S) I' hp hD (Or.inl ⟨h1, rfl⟩)
    rw [tw_uid h1] at u
    exact ⟨h1, u, tw_undo_c C hp hD d (fun c => by rw [h2, List.count_nil, Nat.add_zero])⟩
  · right
    have u := tw_undo (S' := k :: S) I' hp hD (Or.inr ⟨k, h1, hk, rfl⟩)
    have gl := u.2.2.2.2.2.2
    have len := tw_n96 gl.1 (fun j hj => (gl.2.1 j hj).1)
    have len' : S.length + 1 ≤ 96 := len
    refine ⟨k, hk, h1, by omega, ?_, u, tw_undo_c C hp hD d (fun c => ?_)⟩
    · rcases tw_chd_c (tw_stp (be b) (E b).2.2.1) R hp (B b bm.1 bm.2.1).1 with z | ⟨c', z, _, t, _⟩
      · rw [z] at h3; exact absurd h3 (by simp)
      · rw [z] at h3
        have : c' = E k := by simpa using h3
        rw [this] at t
        exact t
    · rw [h3]
      show List.count c ([E k] ++ S.map E) = _
      rw [List.count_append, Nat.add_comm]
theorem tw_iv_perm {S' : List Nat} (h : S.Perm S') (I : tw_iv tg dl mk F ln x D P S E us dn be se no) : tw_iv tg dl mk F ln x D P S' E us dn be se no := by
  obtain ⟨A, B, c, d, e', f, g1, g2, g3, g4⟩ := I
  exact ⟨A, B, c, d, e', f, h.nodup g1, fun k hk => g2 k (h.mem_iff.mpr hk), fun q hq i hi k hk => g3 q hq i hi k (h.mem_iff.mpr hk), g4⟩
theorem tw_CE_perm {H : Nat → List tw_Ev} {Q K K' : List tw_Ev} (h : K.Perm K') (C : tw_CE tg dl mk inj H Q K) : tw_CE tg dl mk inj H Q K' := by
  intro c
  have := C c
  rw [h.count_eq c] at this
  exact this
/-- the engine's state: the invariant with its ghosts hidden -/
def tw_eng (tg dl mk : Nat → Int32) (inj : List tw_Ev) (F : Nat → List tw_Ev) (ln : Int) (x : Nat) (S : List Nat) (E : Nat → tw_Ev) (us dn be se no : Nat → Int32) : Prop :=
  ∃ D P, tw_iv tg dl mk F ln x D P S E us dn be se no ∧ tw_CE tg dl mk inj (tw_hh F D E) (P.map E) (S.map E)
theorem tw_eng_pop {k : Nat} {N S1 : List Nat} (G : tw_eng tg dl mk inj F ln x (N ++ k :: S1) E us dn be se no) (hd : dn k = 0) : tw_eng tg dl mk inj F ln x (N ++ S1) E (upd us k 0) dn be se no := by
  obtain ⟨D, P, I, C⟩ := G
  have I1 := tw_iv_perm (List.perm_middle) I
  have C1 := tw_CE_perm ((List.perm_middle (a := k) (l₁ := N) (l₂ := S1)).map E) C
  have g := I1.2.2.2.2.2.2.2.1 k List.mem_cons_self
  exact ⟨D, P.erase k, tw_pop I1 hd, tw_pop_c ((I1.1.2.1 k).mpr ⟨g.1, g.2, hd⟩) C1⟩
def tw_base (inj : List tw_Ev) (F : Nat → List tw_Ev) (ln : Int) : Prop :=
  inj.length ≤ 24 ∧ (∀ c ∈ inj, tw_l c ≤ 3) ∧ ∀ p, p < 4 → (F p).Pairwise tw_kle ∧ ∀ c ∈ F p, tw_ok c ∧ tw_t c ≤ ln ∧ c.2.1 = nI p
theorem tw_hok (B : tw_base inj F ln) (I : tw_iv tg dl mk F ln x D P S E us dn be se no) : ∀ p, p < 4 → ∀ c ∈ tw_hh F D E p, tw_ok c ∧ c.2.1 = nI p := by
  intro p hp c hc
  rcases List.mem_append.mp hc with h | h
  · have := (B.2.2 p hp).2 c h
    exact ⟨this.1, this.2.2⟩
  · obtain ⟨i, hi, ei⟩ := List.mem_map.mp h
    have m := (I.1.2.2 p hp i).mp hi
    rw [← ei]
    exact ⟨(I.2.1 i m.1 m.2.1).1, m.2.2.2⟩
theorem tw_full (A : tw_iA D P E us dn) (B : tw_iB ln E us) (h : ∀ i, i < 96 → us i ≠ 0) : 96 ≤ P.length + tw_s4 (fun p => (D p).length) := by
  have hs : List.range 96 ⊆ P ++ (D 0 ++ (D 1 ++ (D 2 ++ D 3))) := by
    intro i hi
    have hi' := List.mem_range.mp hi
    have hu := h i hi'
    by_cases c : dn i = 0
    · exact List.mem_append_left _ ((A.2.1 i).mpr ⟨hi', hu, c⟩)
    · apply List.mem_append_right
      obtain ⟨p, hp, ep⟩ := (B i hi' hu).2.2
      have m := (A.2.2 p hp i).mpr ⟨hi', hu, c, ep⟩
      simp only [List.mem_append]
      rcases tw_lt4 hp with z | z | z | z <;> rw [z] at m
      · exact Or.inl m
      · exact Or.inr (Or.inl m)
      · exact Or.inr (Or.inr (Or.inl m))
      · exact Or.inr (Or.inr (Or.inr m))
  have := List.nodup_range.length_le_of_subset hs
  rw [List.length_range] at this
  simp only [List.length_append] at this
  simp only [tw_s4]
  omega
/-- there is room: a bound on the weight of what waits -/
theorem tw_room (R : tw_ru tg dl mk) (B : tw_base inj F ln) (I : tw_iv tg dl mk F ln x D P [] E us dn be se no) (C : tw_CE tg dl mk inj (tw_hh F D E) (P.map E) [])
    (h : inj.length < 24 ∨ ∃ e ∈ P, 1 ≤ tw_l (E e)) : ∃ k, k < 96 ∧ us k = 0 := by
  by_cases c : ∃ k, k < 96 ∧ us k = 0
  · exact c
  · exfalso
    have full := tw_full I.1 I.2.1 (fun i hi hz => c ⟨i, hi, hz⟩)
    have bd := tw_bound R C (fun p hp c hc => (tw_hok B I p hp c hc).1)
    have wi := tw_w_le B.2.1
    have w0 : tw_w [] = 0 := rfl
    have wl := tw_w_len (P.map E)
    rw [List.length_map] at wl
    have hl : tw_s4 (fun p => (D p).length) ≤ tw_s4 (fun p => (tw_hh F D E p).length) := by
      have q : ∀ p, (D p).length ≤ (tw_hh F D E p).length := by
        intro p
        show _ ≤ (F p ++ (D p).map E).length
        rw [List.length_append, List.length_map]
        omega
      have := q 0; have := q 1; have := q 2; have := q 3
      simp only [tw_s4]
      omega
    have b24 := B.1
    rcases h with h | ⟨e, he, hl1⟩
    · omega
    · have w1 := tw_w_len1 hl1 (List.mem_map_of_mem (f := E) he)
      rw [List.length_map] at w1
      omega
end
end
section
section
variable {fi fl fo fr : Int32} {tg dl mk us tm pr va li dn be se no fs fc rc : Nat → Int32}
variable {inj : List tw_Ev} {F : Nat → List tw_Ev} {ln : Int}
theorem tw_w_undo {post : SX → Prop} {e p m : Nat} (he : e < 96) (hp : p < 4) (hpe : pr e = nI p) (hfr : fr = nI m)
    (H : (se e = -1 ∧ post (fi, fl, fo, fr, tg, dl, mk, us, tm, pr, va, li, upd dn e 0, be, se, upd no p (be e), fs, fc, rc)) ∨
      ∃ k, k < 96 ∧ se e = nI k ∧ m < 96 ∧ post (fi, fl, fo, nI (m + 1), tg, dl, mk, us, tm, pr, va, li, upd dn e 0, be, upd se e (-1), upd no p (be e), fs, fc, upd rc m (nI k))) : wpX_undo post (fi, fl, fo, fr, tg, dl, mk, us, tm, pr, va, li, dn, be, se, no, fs, fc, rc) (nI e) := by
  subst hfr
  have ce : (nI e).toNatClampNeg = e := nI_clamp (by omega)
  have cp : (nI p).toNatClampNeg = p := nI_clamp (by omega)
  have ve : vp_in (nI e) 96 := vp_in_nI he (by decide)
  have vp : vp_in (nI p) 4 := vp_in_nI hp (by decide)
  unfold wpX_undo
  dsimp only
  rw [ce, hpe, cp, tw_b0]
  refine ⟨ve, ve, vp, nm_e ⟨ve, nm_e ⟨ve, ?_⟩⟩⟩
  rcases H with ⟨h, K⟩ | ⟨k, hk, h, hm, K⟩
  · exact br_t (by rw [h]; decide) K
  · have cm : (nI m).toNatClampNeg = m := nI_clamp (by omega)
    refine br_f (by rw [h]; exact tw_r_neg hk) ⟨ve, vp_in_nI hm (by decide), ?_⟩
    rw [cm, h]
    exact nm_e (nm_r (nI_1 m) ⟨ve, nm_e K⟩)
theorem tw_last {D : Nat → List Nat} {P : List Nat} {x p : Nat} {r : Int32} {E : Nat → tw_Ev} (A : tw_iA D P E us dn) (c : tw_iC x D P E) (hp : p < 4)
    (hE : ∀ i, (E i).2.1 = pr i) (h : tw_best (tw_Ql us dn pr (nI p)) (fun a b => tw_so E b a) 96 r) :
    (r = -1 ∧ D p = []) ∨ ∃ b L, r = nI b ∧ D p = L ++ [b] := by
  rcases h with ⟨h1, h2⟩ | ⟨b, h1, h2, h3, h4⟩
  · left
    refine ⟨h1, List.eq_nil_iff_forall_not_mem.mpr (fun i hi => ?_)⟩
    have m := (A.2.2 p hp i).mp hi
    exact h2 i m.1 ⟨m.2.1, m.2.2.1, (hE i).symm.trans m.2.2.2⟩
  · right
    have bD : b ∈ D p := (A.2.2 p hp b).mpr ⟨h1, h3.1, h3.2.1, (hE b).trans h3.2.2⟩
    rcases List.eq_nil_or_concat (D p) with z | ⟨L, b', z⟩
    · rw [z] at bD; exact absurd bD List.not_mem_nil
    · rw [List.concat_eq_append] at z
      have b'D : b' ∈ D p := by rw [z]; exact List.mem_append_right _ List.mem_cons_self
      have m := (A.2.2 p hp b').mp b'D
      have hb : b' = b := by
        rcases h4 b' m.1 ⟨m.2.1, m.2.2.1, (hE b').symm.trans m.2.2.2⟩ with y | y
        · exact y
        · exfalso
          have pw := (c p hp).1
          rw [z] at pw bD
          rcases List.mem_append.mp bD with w | w
          · exact tw_so_as y ((List.pairwise_append.mp pw).2.2 b w b' List.mem_cons_self)
          · rw [List.mem_singleton.mp w] at y
            exact tw_so_ir y
      rw [hb] at z
      exact ⟨b, L, h2, z⟩
/-- a state on the way of goBack -/
def tw_gs (tg dl mk : Nat → Int32) (inj : List tw_Ev) (F : Nat → List tw_Ev) (ln : Int) (e : Nat) (S0 S1 : List Nat) (E : Nat → tw_Ev) (us be dn0 : Nat → Int32) (D : Nat → List Nat) (P N : List Nat) (fr : Int32) (dn se no rc : Nat → Int32) : Prop :=
  tw_iv tg dl mk F ln e D P (N ++ S0) E us dn be se no ∧ tw_CE tg dl mk inj (tw_hh F D E) (P.map E) ((N ++ S0).map E) ∧ tw_rk rc (N ++ S1) ∧ fr = nI (N ++ S1).length ∧
  (∀ k ∈ N, tw_t (E e) ≤ tw_t (E k)) ∧ ∀ i, tw_t (E i) < tw_t (E e) → dn i = dn0 i
theorem tw_gb_l {post : SX → Prop} {e p : Nat} {S0 S1 : List Nat} {dn0 : Nat → Int32} (R : tw_ru tg dl mk) (he : e < 96) (hp : p < 4) (hpe : pr e = nI p) (hue : us e ≠ 0) (hl : S1.length ≤ S0.length)
    (K : ∀ (N : List Nat) (fr' : Int32) (dn' se' no' rc' : Nat → Int32), tw_eng tg dl mk inj F ln 96 (N ++ S0) (tw_ev tm pr va li) us dn' be se' no' → tw_rk rc' (N ++ S1) → fr' = nI (N ++ S1).length → (∀ k ∈ N, tw_t (tw_ev tm pr va li e) ≤ tw_t (tw_ev tm pr va li k)) → dn' e = 0 → (∀ i, tw_t (tw_ev tm pr va li i) < tw_t (tw_ev tm pr va li e) → dn' i = dn0 i) → post (fi, fl, fo, fr', tg, dl, mk, us, tm, pr, va, li, dn', be, se', no', fs, fc, rc')) :
    ∀ (m i : Nat) (r : Int32) (D : Nat → List Nat) (P N : List Nat) (fr : Int32) (dn se no rc : Nat → Int32), (D p).length = m → i + m ≤ 96 →
      tw_gs tg dl mk inj F ln e S0 S1 (tw_ev tm pr va li) us be dn0 D P N fr dn se no rc → ((r = -1 ∧ D p = []) ∨ ∃ b L, r = nI b ∧ D p = L ++ [b]) →
      ∀ n, m < n → wX_goBack_16 post (nI e) (nI p) n r (nI i) fi fl fo fr tg dl mk us tm pr va li dn be se no fs fc rc := by
  intro m
  induction m with
  | zero =>
    intro i r D P N fr dn se no rc hm hi G hr n hn
    obtain ⟨n, rfl⟩ : ∃ k, n = k + 1 := ⟨n - 1, by omega⟩
    have hD : D p = [] := List.eq_nil_of_length_eq_zero hm
    obtain ⟨I, C, g3, g4, g5, g6⟩ := G
    have r1 : r = -1 := by
      rcases hr with h | ⟨b, L, _, h⟩
      · exact h.1
      · rw [hD] at h; exact absurd h (by simp)
    have fin : post (fi, fl, fo, fr, tg, dl, mk, us, tm, pr, va, li, dn, be, se, no, fs, fc, rc) := by
      refine K N fr dn se no rc ⟨D, P, tw_drop I ?_, C⟩ g3 g4 g5 ?_ g6
      · intro _ q hq hpq j hj
        have hpq' : pr e = nI q := hpq
        rw [hpe] at hpq'
        rw [← tw_ni (by omega) (by omega) hpq', hD] at hj
        exact absurd hj List.not_mem_nil
      · by_cases c : dn e = 0
        · exact c
        · have := (I.1.2.2 p hp e).mpr ⟨he, hue, c, hpe⟩
          rw [hD] at this
          exact absurd this List.not_mem_nil
    rw [wX_goBack_16]
    dsimp only
    rw [r1]
    exact br_c (fun _ => fin) (fun _ => br_t (by decide) fin)
  | succ m ih =>
    intro i r D P N fr dn se no rc hm hi G hr n hn
    obtain ⟨n, rfl⟩ : ∃ k, n = k + 1 := ⟨n - 1, by omega⟩
    obtain ⟨I, C, g3, g4, g5, g6⟩ := G
    obtain ⟨b, L, r1, hD⟩ : ∃ b L, r = nI b ∧ D p = L ++ [b] := by
      rcases hr with h | h
      · rw [h.2] at hm; exact absurd hm (by simp)
      · exact h
    have hL : L.length = m := by
      rw [hD, List.length_append] at hm
      have : L.length + 1 = m + 1 := hm
      omega
    obtain ⟨⟨bD, bm⟩, soL, pwL, sub⟩ := tw_sub I.1 I.2.2.1 hp hD
    have hge : ¬ (96 : Int32) ≤ nI i := nI_ge (b := 96) (by omega) (by decide)
    have next : ∀ (D' : Nat → List Nat) (P' N' : List Nat) (fr' : Int32) (dn' se' no' rc' : Nat → Int32), D' p = L → tw_gs tg dl mk inj F ln e S0 S1 (tw_ev tm pr va li) us be dn0 D' P' N' fr' dn' se' no' rc' →
        wpX_lastOf (fun r_46 => ∀ x4_66 : Int32, x4_66 = nI i + 1 → wX_goBack_16 post (nI e) (nI p) n r_46 x4_66 fi fl fo fr' tg dl mk us tm pr va li dn' be se' no' fs fc rc') (fi, fl, fo, fr', tg, dl, mk, us, tm, pr, va, li, dn', be, se', no', fs, fc, rc') (nI p) := by
      intro D' P' N' fr' dn' se' no' rc' hD' G'
      refine tw_lastOf (fun r' hr' => nm_r (nI_1 i) ?_)
      exact ih (i + 1) r' D' P' N' fr' dn' se' no' rc' (by rw [hD']; exact hL) (by omega) G' (tw_last G'.1.1 G'.1.2.2.1 hp (fun _ => rfl) hr') n (by omega)
    have body : tw_t (tw_ev tm pr va li e) ≤ tw_t (tw_ev tm pr va li b) → wX_goBack_41 post (wX_goBack_16 post (nI e) (nI p) n) (nI e) (nI p) (nI b) (nI i) fi fl fo fr tg dl mk us tm pr va li dn be se no fs fc rc := by
      intro tb
      unfold wX_goBack_41
      have fm : ∀ j, tw_t (tw_ev tm pr va li j) < tw_t (tw_ev tm pr va li e) → upd dn b 0 j = dn0 j := by
        intro j hj
        rw [tw_un (fun z => by rw [z] at hj; omega)]
        exact g6 j hj
      refine tw_w_undo (m := (N ++ S1).length) bm.1 hp bm.2.2.2 g4 ?_
      rcases tw_undo_step R I C hp hD with ⟨h1, I', C'⟩ | ⟨k, hk, h1, h2, h3, I', C'⟩
      · left
        exact ⟨h1, next (tw_ud D p L) (b :: P) N fr (upd dn b 0) se (upd no p (be b)) rc tw_ud_s ⟨I', C', g3, g4, g5, fm⟩⟩
      · right
        have hlen : (N ++ S1).length ≤ (N ++ S0).length := by rw [List.length_append, List.length_append]; omega
        refine ⟨k, hk, h1, by omega, ?_⟩
        refine next (tw_ud D p L) (b :: P) (k :: N) _ _ _ _ _ tw_ud_s ⟨I', C', ⟨tw_us, tw_rk_u (Nat.le_refl _) g3⟩, rfl, ?_, fm⟩
        intro j hj
        rcases List.mem_cons.mp hj with z | z
        · rw [z]; omega
        · exact g5 j z
    rw [wX_goBack_16]
    dsimp only
    rw [r1]
    refine br_f hge (br_f (tw_r_neg bm.1) ?_)
    by_cases hbe : b = e
    · refine br_t (by rw [hbe]) (body (by rw [hbe]; omega))
    · refine br_f (fun z => hbe (tw_ni bm.1 he z)) ?_
      refine tw_sooner he bm.1 (fun s => ?_) (fun s => ?_)
      · exact br_f (by decide) (body (tw_so_t s))
      · refine br_t rfl ?_
        have sbe : tw_so (tw_ev tm pr va li) b e := (tw_so_tot (fun z => hbe z)).resolve_right s
        have all : ∀ j ∈ D p, tw_so (tw_ev tm pr va li) j e := by
          intro j hj
          rw [hD] at hj
          rcases List.mem_append.mp hj with w | w
          · exact tw_so_tr (soL j w) sbe
          · rw [List.mem_singleton.mp w]; exact sbe
        refine K N fr dn se no rc ⟨D, P, tw_drop I ?_, C⟩ g3 g4 g5 ?_ g6
        · intro _ q hq hpq j hj
          have hpq' : pr e = nI q := hpq
          rw [hpe] at hpq'
          rw [← tw_ni (by omega) (by omega) hpq'] at hj
          exact all j hj
        · by_cases c : dn e = 0
          · exact c
          · exact absurd (all e ((I.1.2.2 p hp e).mpr ⟨he, hue, c, hpe⟩)) tw_so_ir
theorem tw_goBack {post : SX → Prop} {e : Nat} {S0 S1 : List Nat} (R : tw_ru tg dl mk) (he : e < 96) (hue : us e ≠ 0) (hl : S1.length ≤ S0.length)
    (G : tw_eng tg dl mk inj F ln e S0 (tw_ev tm pr va li) us dn be se no) (hrk : tw_rk rc S1) (hfr : fr = nI S1.length)
    (K : ∀ (N : List Nat) (fr' : Int32) (dn' se' no' rc' : Nat → Int32), tw_eng tg dl mk inj F ln 96 (N ++ S0) (tw_ev tm pr va li) us dn' be se' no' → tw_rk rc' (N ++ S1) → fr' = nI (N ++ S1).length → (∀ k ∈ N, tw_t (tw_ev tm pr va li e) ≤ tw_t (tw_ev tm pr va li k)) → dn' e = 0 → (∀ i, tw_t (tw_ev tm pr va li i) < tw_t (tw_ev tm pr va li e) → dn' i = dn i) → post (fi, fl, fo, fr', tg, dl, mk, us, tm, pr, va, li, dn', be, se', no', fs, fc, rc')) :
    wpX_goBack post (fi, fl, fo, fr, tg, dl, mk, us, tm, pr, va, li, dn, be, se, no, fs, fc, rc) (nI e) := by
  obtain ⟨D, P, I, C⟩ := G
  obtain ⟨p, hp, hpe⟩ := (I.2.1 e he hue).2.2
  have hpe' : pr e = nI p := hpe
  have ce : (nI e).toNatClampNeg = e := nI_clamp (by omega)
  unfold wpX_goBack
  dsimp only
  rw [ce]
  refine ⟨vp_in_nI he (by decide), nm_r hpe' ?_⟩
  refine tw_lastOf (fun r hr => ⟨97, ?_⟩)
  have nd : (D p).Nodup := by
    refine ((I.2.2.1 p hp).1).imp (fun {a b} s z => ?_)
    rw [z] at s
    exact tw_so_ir s
  have len := tw_n96 nd (fun j hj => ((I.1.2.2 p hp j).mp hj).1)
  exact tw_gb_l (S0 := S0) (S1 := S1) (dn0 := dn) R he hp hpe' hue hl K (D p).length 0 r D P [] fr dn se no rc rfl (by omega) ⟨I, C, hrk, hfr, fun k hk => absurd hk List.not_mem_nil, fun _ _ => rfl⟩ (tw_last I.1 I.2.2.1 hp (fun _ => rfl) hr) 97 (by omega)
theorem tw_cb_l {post : SX → Prop} {τ : Int} {us0 dn0 : Nat → Int32} (R : tw_ru tg dl mk)
    (K : ∀ (us' dn' se' no' rc' : Nat → Int32), tw_eng tg dl mk inj F ln 96 [] (tw_ev tm pr va li) us' dn' be se' no' → (∀ i, tw_t (tw_ev tm pr va li i) < τ → us' i = us0 i ∧ dn' i = dn0 i) → post (fi, fl, fo, 0, tg, dl, mk, us', tm, pr, va, li, dn', be, se', no', fs, fc, rc')) :
    ∀ (m : Nat) (S : List Nat) (fr : Int32) (us dn se no rc : Nat → Int32), tw_nu us 96 ≤ m → tw_eng tg dl mk inj F ln 96 S (tw_ev tm pr va li) us dn be se no → tw_rk rc S → fr = nI S.length → (∀ k ∈ S, τ ≤ tw_t (tw_ev tm pr va li k)) →
      (∀ i, tw_t (tw_ev tm pr va li i) < τ → us i = us0 i ∧ dn i = dn0 i) → ∀ n, m < n → wX_callBack_0 post n fi fl fo fr tg dl mk us tm pr va li dn be se no fs fc rc := by
  intro m
  induction m with
  | zero =>
    intro S fr us dn se no rc hm G hrk hfr hS fm n hn
    obtain ⟨n, rfl⟩ : ∃ k, n = k + 1 := ⟨n - 1, by omega⟩
    have hn : S = [] := by
      cases S with
      | nil => rfl
      | cons k S =>
        exfalso
        obtain ⟨D, P, I, C⟩ := G
        have g := I.2.2.2.2.2.2.2.1 k List.mem_cons_self
        have := tw_nu_u g.2 96 g.1
        omega
    subst hn
    rw [wX_callBack_0]
    dsimp only
    subst hfr
    exact br_t (by decide) (K us dn se no rc G fm)
  | succ m ih =>
    intro S fr us dn se no rc hm G hrk hfr hS fm n hn
    obtain ⟨n, rfl⟩ : ∃ k, n = k + 1 := ⟨n - 1, by omega⟩
    rw [wX_callBack_0]
    dsimp only
    cases S with
    | nil =>
      subst hfr
      exact br_t (by decide) (K us dn se no rc G fm)
    | cons k S1 =>
      have G' := G
      obtain ⟨D, P, I, C⟩ := G
      have gg := I.2.2.2.2.2.2
      have g := gg.2.1 k List.mem_cons_self
      have len : S1.length + 1 ≤ 96 := tw_n96 gg.1 (fun j hj => (gg.2.1 j hj).1)
      have hfr' : fr = nI (S1.length + 1) := hfr
      have ck : (nI k).toNatClampNeg = k := nI_clamp (by omega)
      have cl : (nI S1.length).toNatClampNeg = S1.length := nI_clamp (by omega)
      have vk : vp_in (nI k) 96 := vp_in_nI g.1 (by decide)
      have tk := hS k List.mem_cons_self
      subst hfr'
      have nu := tw_nu_u g.2 96 g.1
      refine br_f (nI_nle (by omega) (by omega)) (nm_r (nI_pred S1.length) ⟨vp_in_nI (by omega) (by decide), ?_⟩)
      rw [cl]
      refine nm_r hrk.1 ⟨vk, ?_⟩
      rw [ck, tw_b0]
      by_cases hd : dn k = 0
      · refine br_t hd ⟨vk, nm_e ?_⟩
        refine ih S1 (nI S1.length) (upd us k 0) dn se no rc (by omega) (tw_eng_pop (N := []) G' hd) hrk.2 rfl (fun j hj => hS j (List.mem_cons_of_mem _ hj)) (fun i hi => ?_) n (by omega)
        rw [tw_un (fun z => by rw [z] at hi; omega)]
        exact fm i hi
      · refine br_f hd ?_
        refine tw_goBack (S0 := k :: S1) (S1 := S1) R g.1 g.2 (by rw [List.length_cons]; omega) ⟨D, P, tw_weak k I, C⟩ hrk.2 rfl (fun N fr' dn' se' no' rc' G1 rk1 fr1 hN d0 fm1 => ?_)
        refine ⟨vk, nm_e ?_⟩
        refine ih (N ++ S1) fr' (upd us k 0) dn' se' no' rc' (by omega) (tw_eng_pop G1 d0) rk1 fr1 (fun j hj => ?_) (fun i hi => ?_) n (by omega)
        · rcases List.mem_append.mp hj with w | w
          · have := hN j w; omega
          · exact hS j (List.mem_cons_of_mem _ w)
        · rw [tw_un (fun z => by rw [z] at hi; omega), fm1 i (by omega)]
          exact fm i hi
/-- an event has come; e may be out of order -/
theorem tw_arrive {post : SX → Prop} {e : Nat} (R : tw_ru tg dl mk) (he : e < 96) (hue : us e ≠ 0) (G : tw_eng tg dl mk inj F ln e [] (tw_ev tm pr va li) us dn be se no) (hfr : fr = 0)
    (K : ∀ (us' dn' se' no' rc' : Nat → Int32), tw_eng tg dl mk inj F ln 96 [] (tw_ev tm pr va li) us' dn' be se' no' → (∀ i, tw_t (tw_ev tm pr va li i) < tw_t (tw_ev tm pr va li e) → us' i = us i ∧ dn' i = dn i) → post (fi, fl, fo, 0, tg, dl, mk, us', tm, pr, va, li, dn', be, se', no', fs, fc, rc')) :
    wpX_arrive post (fi, fl, fo, fr, tg, dl, mk, us, tm, pr, va, li, dn, be, se, no, fs, fc, rc) (nI e) := by
  unfold wpX_arrive
  dsimp only
  refine tw_goBack (S0 := []) (S1 := []) R he hue (Nat.le_refl _) G trivial hfr (fun N fr' dn' se' no' rc' G1 rk1 fr1 hN d0 fm1 => ?_)
  dsimp only
  unfold wpX_callBack
  dsimp only
  rw [List.append_nil] at G1 rk1 fr1
  exact ⟨tw_nu us 96 + 1, tw_cb_l R K (tw_nu us 96) N fr' us dn' se' no' rc' (Nat.le_refl _) G1 rk1 fr1 hN (fun i hi => ⟨rfl, fm1 i hi⟩) _ (by omega)⟩
end
end
section
theorem tw_ucomm {f : Nat → Int32} {a b : Nat} {v w : Int32} (h : a ≠ b) : upd (upd f a v) b w = upd (upd f b w) a v := by
  funext j
  by_cases c : j = a
  · rw [c, tw_us, tw_un h, tw_us]
  · by_cases d : j = b
    · rw [d, tw_us, tw_un (Ne.symm h), tw_us]
    · rw [tw_un d, tw_un c, tw_un c, tw_un d]
theorem tw_ev_n {tm pr va li : Nat → Int32} {k i : Nat} {a b c d : Int32} (h : i ≠ k) : tw_ev (upd tm k a) (upd pr k b) (upd va k c) (upd li k d) i = tw_ev tm pr va li i := by
  unfold tw_ev
  rw [tw_un h, tw_un h, tw_un h, tw_un h]
theorem tw_ev_s {tm pr va li : Nat → Int32} {k : Nat} {a b c d : Int32} : tw_ev (upd tm k a) (upd pr k b) (upd va k c) (upd li k d) k = (a, b, c, d) := by
  unfold tw_ev
  rw [tw_us, tw_us, tw_us, tw_us]
/-- what a handling leaves as it is -/
def tw_hf (e : Nat) (us tm dn us' tm' dn' : Nat → Int32) : Prop :=
  (∀ i, i < 96 → us i ≠ 0 → (tm i).toInt ≤ (tm e).toInt → us' i ≠ 0 ∧ tm' i = tm i ∧ (dn i ≠ 0 ∨ i = e → dn' i ≠ 0)) ∧
  ∀ i, i < 96 → us' i ≠ 0 → dn' i = 0 → (us i ≠ 0 ∧ dn i = 0 ∧ i ≠ e ∧ tm' i = tm i) ∨ (tm e).toInt < (tm' i).toInt
section
variable {fi fl fo fr : Int32} {tg dl mk us tm pr va li dn be se no fs fc rc : Nat → Int32}
variable {inj : List tw_Ev} {F : Nat → List tw_Ev} {ln : Int}
theorem tw_newEvent_l {post : Int32 → SX → Prop} {x1 x2 x3 x4 : Int32} (h : ∃ e, e < 96 ∧ us e = 0)
    (K : ∀ e, e < 96 → us e = 0 → post (nI e) (fi, fl, fo, fr, tg, dl, mk, upd us e 1, upd tm e x2, upd pr e x1, upd va e x3, upd li e x4, upd dn e 0, be, upd se e (-1), no, fs, fc, rc)) :
    ∀ (m i : Nat), i + m = 95 → (∀ j, j < i → us j ≠ 0) → wX_newEvent_3 post x1 x2 x3 x4 fi fl fo fr tg dl mk us tm pr va li dn be se no fs fc rc (m + 1) (nI i) := by
  have fin : ∀ i, i < 96 → us i = 0 → wX_newEvent_26 post x1 x2 x3 x4 (nI i) fi fl fo fr tg dl mk us tm pr va li dn be se no fs fc rc := by
    intro i hi hu
    have vi : vp_in (nI i) 96 := vp_in_nI (by omega) (by decide)
    have cl : (nI i).toNatClampNeg = i := nI_clamp (by omega)
    unfold wX_newEvent_26
    rw [cl, tw_b0, tw_b1]
    exact ⟨vi, nm_e ⟨vi, nm_e ⟨vi, nm_e ⟨vi, nm_e ⟨vi, nm_e ⟨vi, nm_e ⟨vi, nm_e (K i hi hu)⟩⟩⟩⟩⟩⟩⟩
  intro m
  induction m with
  | zero =>
    intro i hi hb
    have h95 : i = 95 := by omega
    have hu : us i = 0 := by
      obtain ⟨e, he, hz⟩ := h
      by_cases c : e < i
      · exact absurd hz (hb e c)
      · have : e = i := by omega
        rw [← this]; exact hz
    rw [wX_newEvent_3]
    dsimp only
    exact br_t (by rw [h95]; decide) (fin i (by omega) hu)
  | succ m ih =>
    intro i hi hb
    have hge : ¬ (95 : Int32) ≤ nI i := nI_ge (b := 95) (by omega) (by decide)
    have cl : (nI i).toNatClampNeg = i := nI_clamp (by omega)
    rw [wX_newEvent_3]
    dsimp only
    rw [cl]
    refine br_f hge ⟨vp_in_nI (by omega) (by decide), ?_⟩
    by_cases hu : us i = 0
    · exact br_t hu (fin i (by omega) hu)
    · refine br_f hu (nm_r (nI_1 i) (ih (i + 1) (by omega) (fun j hj => ?_)))
      by_cases c : j = i
      · rw [c]; exact hu
      · exact hb j (by omega)
theorem tw_newEvent {post : Int32 → SX → Prop} {x1 x2 x3 x4 : Int32} (h : ∃ e, e < 96 ∧ us e = 0)
    (K : ∀ e, e < 96 → us e = 0 → post (nI e) (fi, fl, fo, fr, tg, dl, mk, upd us e 1, upd tm e x2, upd pr e x1, upd va e x3, upd li e x4, upd dn e 0, be, upd se e (-1), no, fs, fc, rc)) :
    wpX_newEvent post (fi, fl, fo, fr, tg, dl, mk, us, tm, pr, va, li, dn, be, se, no, fs, fc, rc) x1 x2 x3 x4 := ⟨96, tw_newEvent_l h K 95 0 rfl (fun j hj => absurd hj (by omega))⟩
theorem tw_le0 {a : Int32} : a ≤ 0 ↔ ¬ 0 < a.toInt := by
  have z : (0 : Int32).toInt = 0 := by decide
  rw [Int32.le_iff_toInt_le, z]
  omega
theorem tw_handle {post : SX → Prop} {e p : Nat} (R : tw_ru tg dl mk) (B : tw_base inj F ln) (G : tw_eng tg dl mk inj F ln 96 [] (tw_ev tm pr va li) us dn be se no) (hfr : fr = 0)
    (he : e < 96) (hue : us e ≠ 0) (hde : dn e = 0) (hp : p < 4) (hpe : pr e = nI p) (hmin : ∀ j, j < 96 → us j ≠ 0 → dn j = 0 → pr j = nI p → j = e ∨ tw_so (tw_ev tm pr va li) e j)
    (K : ∀ (us' tm' pr' va' li' dn' be' se' no' rc' : Nat → Int32), tw_eng tg dl mk inj F ln 96 [] (tw_ev tm' pr' va' li') us' dn' be' se' no' → tw_hf e us tm dn us' tm' dn' → post (fi, fl, fo, 0, tg, dl, mk, us', tm', pr', va', li', dn', be', se', no', fs, fc, rc')) :
    wpX_handle post (fi, fl, fo, fr, tg, dl, mk, us, tm, pr, va, li, dn, be, se, no, fs, fc, rc) (nI e) := by
  subst hfr
  obtain ⟨D, P, I, C⟩ := G
  have eP : e ∈ P := (I.1.2.1 e).mpr ⟨he, hue, hde⟩
  have ce : (nI e).toNatClampNeg = e := nI_clamp (by omega)
  have cp : (nI p).toNatClampNeg = p := nI_clamp (by omega)
  have ve : vp_in (nI e) 96 := vp_in_nI he (by decide)
  have vp : vp_in (nI p) 4 := vp_in_nI hp (by decide)
  have see : se e = -1 := I.2.2.2.2.2.1 e eP
  have oke := (I.2.1 e he hue).1
  have mn : ∀ j ∈ P, j ≠ 96 → (tw_ev tm pr va li j).2.1 = nI p → j = e ∨ tw_so (tw_ev tm pr va li) e j := by
    intro j hj _ hpj
    have m := (I.1.2.1 j).mp hj
    exact hmin j m.1 m.2.1 m.2.2 hpj
  have noch : tw_chd tg dl mk p (tw_stp (no p) (va e)) (tw_ev tm pr va li e) = [] → post (fi, fl, fo, 0, tg, dl, mk, us, tm, pr, va, li, upd dn e 1, upd be e (no p), se, upd no p (tw_stp (no p) (va e)), fs, fc, rc) := by
    intro hc
    have I1 := tw_hnd (v := -1) I hp eP (by omega) hpe mn (Or.inl ⟨rfl, hc⟩) (fun _ _ _ _ _ => rfl)
    rw [tw_uid see] at I1
    have C1 : tw_CE tg dl mk inj (tw_hh F (tw_ud D p (D p ++ [e])) (tw_ev tm pr va li)) ((P.erase e).map (tw_ev tm pr va li)) [] := tw_hnd_c eP hp I.2.2.2.1 (by
      have : tw_chd tg dl mk p (tw_stp (no p) (tw_ev tm pr va li e).2.2.1) (tw_ev tm pr va li e) = [] := hc
      rw [this]; exact C)
    refine K us tm pr va li (upd dn e 1) (upd be e (no p)) se (upd no p (tw_stp (no p) (va e))) rc ⟨_, _, I1, C1⟩ ⟨fun i hi hu ht => ⟨hu, rfl, fun h => ?_⟩, fun i hi hu hd => ?_⟩
    · by_cases c : i = e
      · rw [c, tw_us]; decide
      · rw [tw_un c]; exact h.resolve_right c
    · by_cases c : i = e
      · rw [c, tw_us] at hd; exact absurd hd (by decide)
      · rw [tw_un c] at hd; exact Or.inl ⟨hu, hd, c, rfl⟩
  unfold wpX_handle
  dsimp only
  rw [ce]
  refine ⟨ve, nm_r hpe ?_⟩
  rw [cp, tw_b1]
  refine ⟨vp, ve, nm_e ⟨vp, ve, vp, nm_e ⟨ve, nm_e ⟨ve, ?_⟩⟩⟩⟩
  rw [tw_us]
  have st : no p * 5 + va e + 1 = tw_stp (no p) (va e) := rfl
  rw [st]
  by_cases hl : li e ≤ 0
  · refine br_t hl (noch ?_)
    unfold tw_chd
    rw [if_neg (fun h => tw_le0.mp hl h.1)]
  refine br_f hl ⟨vp, vp, ?_⟩
  by_cases hm : tw_stp (no p) (va e) &&& mk p = 0
  · refine br_t hm ⟨vp, ve, vp, vp, ve, ?_⟩
    have hl' : 0 < (li e).toInt := Decidable.not_not.mp (fun z => hl (tw_le0.mpr z))
    have hc : tw_chd tg dl mk p (tw_stp (no p) (va e)) (tw_ev tm pr va li e) = [(tm e + dl p, tg p, (tw_stp (no p) (va e) >>> ((2 : Int32) &&& 31)) &&& 15, li e - 1)] := by
      unfold tw_chd
      rw [if_pos ⟨hl', hm⟩]
      rfl
    have room := tw_room R B I C (Or.inr ⟨e, eP, hl'⟩)
    refine tw_newEvent room (fun k hk huk => ?_)
    dsimp only
    refine ⟨ve, nm_e ?_⟩
    have hke : k ≠ e := fun z => hue (by rw [← z]; exact huk)
    generalize hx2 : tm e + dl p = x2 at hc ⊢
    generalize hx3 : (tw_stp (no p) (va e) >>> ((2 : Int32) &&& 31)) &&& 15 = x3 at hc ⊢
    generalize hx4 : li e - 1 = x4 at hc ⊢
    have Ek : tw_ev (upd tm k x2) (upd pr k (tg p)) (upd va k x3) (upd li k x4) k = (x2, tg p, x3, x4) := tw_ev_s
    have En : ∀ i, i ≠ k → tw_ev (upd tm k x2) (upd pr k (tg p)) (upd va k x3) (upd li k x4) i = tw_ev tm pr va li i := fun i h => tw_ev_n h
    obtain ⟨okc, ltc, pc⟩ : tw_ok (x2, tg p, x3, x4) ∧ tw_t (tw_ev tm pr va li e) < tw_t (x2, tg p, x3, x4) ∧ ∃ q, q < 4 ∧ tg p = nI q := by
      rcases tw_chd_c (tw_stp (no p) (va e)) R hp oke with z | ⟨c', z, a, t, _, q⟩
      · rw [hc] at z; exact absurd z (by simp)
      · rw [hc] at z
        have z' : (x2, tg p, x3, x4) = c' := by simpa using z
        rw [← z'] at a t q
        exact ⟨a, t, q⟩
    have lne := (I.2.1 e he hue).2.1
    generalize hE' : tw_ev (upd tm k x2) (upd pr k (tg p)) (upd va k x3) (upd li k x4) = E' at Ek En
    have I1 := tw_new (E' := E') I hk huk En (by rw [Ek]; exact okc) (by rw [Ek]; omega) (by rw [Ek]; exact pc)
    have C1 := tw_new_c (E' := E') I.1 huk En C
    have Ee : E' e = tw_ev tm pr va li e := En e (Ne.symm hke)
    have hc' : tw_chd tg dl mk p (tw_stp (no p) (E' e).2.2.1) (E' e) = [E' k] := by
      rw [Ee, Ek]; exact hc
    have hv : ∀ q, q < 4 → ∀ i ∈ D q, upd se k (-1) i = nI k → nI k = -1 := by
      intro q hq i hi hs
      have im := (I.1.2.2 q hq i).mp hi
      have hik : i ≠ k := fun z => im.2.1 (by rw [z]; exact huk)
      rw [tw_un hik] at hs
      rcases I.2.2.2.2.1 q hq i hi with ⟨z, _⟩ | ⟨k', hk', z, u, _⟩
      · rw [← hs, z]
      · rw [hs] at z
        rw [← tw_ni hk hk' z] at u
        exact absurd huk u
    have I2 := tw_hnd (v := nI k) I1 hp (List.mem_cons_of_mem _ eP) (Ne.symm hke) (by rw [Ee]; exact hpe) (fun j hj hjx hpj => by
      have hj' : j ∈ P := (List.mem_cons.mp hj).elim (fun z => absurd z hjx) id
      rw [En j hjx] at hpj
      rcases mn j hj' (by have := ((I.1.2.1 j).mp hj').1; omega) hpj with z | z
      · exact Or.inl z
      · exact Or.inr (tw_so_cg Ee (En j hjx) z)) (Or.inr ⟨k, hk, rfl, by rw [tw_us]; decide, hc'⟩) hv
    have C2 := tw_hnd_c (e := e) (List.mem_cons_of_mem k eP) hp I1.2.2.2.1 (by rw [hc']; exact C1)
    have v : tw_stp (no p) (E' e).2.2.1 = tw_stp (no p) (va e) := by rw [Ee]; rfl
    rw [v, tw_ucomm hke] at I2
    subst hE'
    have G2 := (⟨_, _, I2, C2⟩ : tw_eng tg dl mk inj F ln k [] _ _ _ _ _ _)
    refine tw_arrive R hk (by rw [tw_us]; decide) G2 rfl (fun us' dn' se' no' rc' G3 fm => ?_)
    dsimp only
    have tk : (x2 : Int32).toInt = tw_t (tw_ev (upd tm k x2) (upd pr k (tg p)) (upd va k x3) (upd li k x4) k) := by rw [Ek]; rfl
    have ltc' : (tm e).toInt < x2.toInt := ltc
    refine K us' _ _ _ _ dn' _ se' no' rc' G3 ⟨fun i hi hu ht => ?_, fun i hi hu hd => ?_⟩
    · have hik : i ≠ k := fun z => hu (by rw [z]; exact huk)
      have ti : tw_t (tw_ev (upd tm k x2) (upd pr k (tg p)) (upd va k x3) (upd li k x4) i) = (tm i).toInt := by rw [En i hik]; rfl
      have f := fm i (by rw [ti, ← tk]; omega)
      rw [tw_un hik, tw_un hik] at f
      refine ⟨by rw [f.1]; exact hu, tw_un hik, fun h => ?_⟩
      rw [f.2]
      by_cases c : i = e
      · rw [c, tw_us]; decide
      · rw [tw_un c]; exact h.resolve_right c
    · by_cases c : (upd tm k x2 i).toInt < x2.toInt
      · left
        have f := fm i (by rw [← tk]; exact c)
        have hik : i ≠ k := fun z => by rw [z, tw_us] at c; omega
        rw [tw_un hik, tw_un hik] at f
        rw [f.1] at hu
        rw [f.2] at hd
        have hie : i ≠ e := fun z => by rw [z, tw_us] at hd; exact absurd hd (by decide)
        rw [tw_un hie] at hd
        exact ⟨hu, hd, hie, tw_un hik⟩
      · right
        omega
  · refine br_f hm (noch ?_)
    unfold tw_chd
    rw [if_neg (fun h => hm h.2)]
end
end
section
/-! counts over places -/
def tw_cn (q : Nat → Bool) (n : Nat) : Nat := ((List.range n).filter q).length
theorem tw_cn_s (q : Nat → Bool) (n : Nat) : tw_cn q (n + 1) = tw_cn q n + if q n then 1 else 0 := by
  unfold tw_cn
  rw [List.range_succ, List.filter_append, List.length_append]
  congr 1
  by_cases c : q n
  · rw [if_pos c, List.filter_cons_of_pos c]; rfl
  · rw [if_neg c, List.filter_cons_of_neg c]; rfl
theorem tw_cn_t {q : Nat → Bool} {n : Nat} (h : q n = true) : tw_cn q (n + 1) = tw_cn q n + 1 := by rw [tw_cn_s, if_pos h]
theorem tw_cn_f {q : Nat → Bool} {n : Nat} (h : q n = false) : tw_cn q (n + 1) = tw_cn q n := by rw [tw_cn_s, if_neg (by rw [h]; decide), Nat.add_zero]
theorem tw_cn_le (q : Nat → Bool) (n : Nat) : tw_cn q n ≤ n := by
  have h : tw_cn q n ≤ (List.range n).length := List.length_filter_le q (List.range n)
  rw [List.length_range] at h
  exact h
theorem tw_cn_lt {q q' : Nat → Bool} {n e : Nat} (h : ∀ j, j < n → q j = true → q' j = true) (he : e < n) (h0 : q e = false) (h1 : q' e = true) : tw_cn q n + 1 ≤ tw_cn q' n := by
  have nd : (e :: (List.range n).filter q).Nodup := by
    refine List.nodup_cons.mpr ⟨fun hm => ?_, List.nodup_range.filter q⟩
    have := (List.mem_filter.mp hm).2
    rw [h0] at this
    exact absurd this (by decide)
  have := nd.length_le_of_subset (l₂ := (List.range n).filter q') (by
    intro j hj
    rcases List.mem_cons.mp hj with z | z
    · rw [z]; exact List.mem_filter.mpr ⟨List.mem_range.mpr he, h1⟩
    · have m := List.mem_filter.mp z
      exact List.mem_filter.mpr ⟨m.1, h j (List.mem_range.mp m.1) m.2⟩)
  exact this
theorem tw_cn_l {q : Nat → Bool} {n : Nat} {l : List Nat} (hl : l.Nodup) (h : ∀ j, j ∈ l ↔ j < n ∧ q j = true) : tw_cn q n = l.length := by
  have p : ((List.range n).filter q).Perm l := by
    rw [List.perm_ext_iff_of_nodup (List.nodup_range.filter q) hl]
    intro j
    rw [List.mem_filter, List.mem_range, h j]
  exact p.length_eq
section
variable {fi fl fo fr : Int32} {tg dl mk us tm pr va li dn be se no fs fc rc : Nat → Int32}
variable {inj : List tw_Ev} {F : Nat → List tw_Ev} {ln : Int}
def tw_qc (us pr tm : Nat → Int32) (x1 x2 : Int32) (j : Nat) : Bool := decide (us j ≠ 0 ∧ pr j = x1 ∧ ¬ x2 < tm j)
theorem tw_countUpTo_l {post : Int32 → Prop} {x1 x2 : Int32} (K : post (nI (tw_cn (tw_qc us pr tm x1 x2) 96))) :
    ∀ (m i : Nat) (r : Int32), i + m = 96 → r = nI (tw_cn (tw_qc us pr tm x1 x2) i) → wX_countUpTo_5 post x1 x2 fi fl fo fr tg dl mk us tm pr va li dn be se no fs fc rc (m + 1) r (nI i) := by
  intro m
  induction m with
  | zero =>
    intro i r hi h
    have h96 : i = 96 := by omega
    rw [h96] at h ⊢
    rw [h]
    exact br_t (by decide) K
  | succ m ih =>
    intro i r hi h
    have hge : ¬ (96 : Int32) ≤ nI i := nI_ge (b := 96) (by omega) (by decide)
    have cl : (nI i).toNatClampNeg = i := nI_clamp (by omega)
    have vi : vp_in (nI i) 96 := vp_in_nI (by omega) (by decide)
    have nf : ¬ (us i ≠ 0 ∧ pr i = x1 ∧ ¬ x2 < tm i) → ∀ y, y = nI i + 1 → wX_countUpTo_5 post x1 x2 fi fl fo fr tg dl mk us tm pr va li dn be se no fs fc rc (m + 1) r y := fun c => nm_r (nI_1 i) (ih (i + 1) r (by omega) (by rw [tw_cn_f (decide_eq_false c)]; exact h))
    rw [wX_countUpTo_5]; dsimp only; rw [cl]
    refine br_f hge ⟨vi, ?_⟩
    by_cases hu : us i = 0
    · exact br_t hu (nf (fun c => c.1 hu))
    refine br_f hu ⟨vi, ?_⟩
    by_cases hp : pr i = x1
    · refine br_t hp ⟨vi, ?_⟩
      by_cases ht : x2 < tm i
      · exact br_t ht (nf (fun c => c.2.2 ht))
      · refine br_f ht (nm_e (nm_r (nI_1 i) (ih (i + 1) _ (by omega) ?_)))
        rw [tw_cn_t (decide_eq_true ⟨hu, hp, ht⟩), h, nI_1]
    · exact br_f hp (nf (fun c => hp c.2.1))
theorem tw_countUpTo {post : Int32 → Prop} {x1 x2 : Int32} (K : post (nI (tw_cn (tw_qc us pr tm x1 x2) 96))) : wpX_countUpTo post (fi, fl, fo, fr, tg, dl, mk, us, tm, pr, va, li, dn, be, se, no, fs, fc, rc) x1 x2 :=
  ⟨97, tw_countUpTo_l K 96 0 0 rfl rfl⟩
/-- e waits, and none of its process waits ahead of it -/
def tw_fst (us dn pr : Nat → Int32) (E : Nat → tw_Ev) (e : Nat) : Prop :=
  e < 96 ∧ us e ≠ 0 ∧ dn e = 0 ∧ ∃ p, p < 4 ∧ pr e = nI p ∧ ∀ j, j < 96 → us j ≠ 0 → dn j = 0 → pr j = nI p → j = e ∨ tw_so E e j
/-- earliest's answer over the processes below p -/
def tw_er (us dn pr tm : Nat → Int32) (E : Nat → tw_Ev) (x1 : Int32) (p : Nat) (r : Int32) : Prop :=
  (r = -1 ∧ ∀ j, j < 96 → us j ≠ 0 → dn j = 0 → (∃ q, q < p ∧ pr j = nI q) → x1.toInt < (tm j).toInt) ∨
  ∃ b, r = nI b ∧ tw_fst us dn pr E b ∧ (tm b).toInt ≤ x1.toInt ∧ ∀ j, j < 96 → us j ≠ 0 → dn j = 0 → (∃ q, q < p ∧ pr j = nI q) → (tm b).toInt ≤ (tm j).toInt
theorem tw_earliest_l {post : Int32 → Prop} {x1 : Int32} (K : ∀ r, tw_er us dn pr tm (tw_ev tm pr va li) x1 4 r → post r) :
    ∀ (m i : Nat) (r : Int32), i + m = 4 → tw_er us dn pr tm (tw_ev tm pr va li) x1 i r → wX_earliest_4 post x1 fi fl fo fr tg dl mk us tm pr va li dn be se no fs fc rc (m + 1) r (nI i) := by
  intro m
  induction m with
  | zero =>
    intro i r hi h
    have h4 : i = 4 := by omega
    rw [h4] at h ⊢
    exact br_t (by decide) (K r h)
  | succ m ih =>
    intro i r hi h
    have hge : ¬ (4 : Int32) ≤ nI i := nI_ge (b := 4) (by omega) (by decide)
    have nx : ∀ r', tw_er us dn pr tm (tw_ev tm pr va li) x1 (i + 1) r' → ∀ y, y = nI i + 1 → wX_earliest_4 post x1 fi fl fo fr tg dl mk us tm pr va li dn be se no fs fc rc (m + 1) r' y := fun r' h' => nm_r (nI_1 i) (ih (i + 1) r' (by omega) h')
    rw [wX_earliest_4]; dsimp only
    refine br_f hge ?_
    refine tw_nextOf (fun r1 hr1 => ?_)
    have ext : ∀ t : Int, (∀ j, j < 96 → us j ≠ 0 → dn j = 0 → (∃ q, q < i ∧ pr j = nI q) → t ≤ (tm j).toInt) → (∀ j, j < 96 → tw_Qn us dn pr (nI i) j → t ≤ (tm j).toInt) → ∀ j, j < 96 → us j ≠ 0 → dn j = 0 → (∃ q, q < i + 1 ∧ pr j = nI q) → t ≤ (tm j).toInt := by
      intro t h1 h2 j hj hu hd ⟨q, hq, e⟩
      by_cases c : q = i
      · exact h2 j hj ⟨hu, hd, by rw [← c]; exact e⟩
      · exact h1 j hj hu hd ⟨q, by omega, e⟩
    rcases hr1 with ⟨a1, a2⟩ | ⟨b, b1, b2, b3, b4⟩
    · rw [a1]
      refine br_t (by decide) (nx r ?_)
      rcases h with ⟨h1, h2⟩ | ⟨c, h1, h2, h3, h4⟩
      · exact Or.inl ⟨h1, ext (x1.toInt + 1) h2 (fun j hj hq => absurd hq (a2 j hj))⟩
      · exact Or.inr ⟨c, h1, h2, h3, ext _ h4 (fun j hj hq => absurd hq (a2 j hj))⟩
    · have cb : (nI b).toNatClampNeg = b := nI_clamp (by omega)
      have vb : vp_in (nI b) 96 := vp_in_nI (by omega) (by decide)
      have fb : tw_fst us dn pr (tw_ev tm pr va li) b := ⟨b1, b3.1, b3.2.1, i, by omega, b3.2.2, fun j hj hu hd hp => b4 j hj ⟨hu, hd, hp⟩⟩
      have tb : ∀ j, j < 96 → tw_Qn us dn pr (nI i) j → (tm b).toInt ≤ (tm j).toInt := by
        intro j hj hq
        rcases b4 j hj hq with z | z
        · rw [z]; omega
        · exact tw_so_t z
      rw [b2, cb]
      refine br_f (tw_r_neg b1) ⟨vb, ?_⟩
      by_cases ht : x1 < tm b
      · refine br_t ht (nx r ?_)
        have ht' : x1.toInt < (tm b).toInt := Int32.lt_iff_toInt_lt.mp ht
        rcases h with ⟨h1, h2⟩ | ⟨c, h1, h2, h3, h4⟩
        · refine Or.inl ⟨h1, ext (x1.toInt + 1) h2 (fun j hj hq => ?_)⟩
          have := tb j hj hq; omega
        · refine Or.inr ⟨c, h1, h2, h3, ext _ h4 (fun j hj hq => ?_)⟩
          have := tb j hj hq; omega
      · refine br_f ht ?_
        have ht' : (tm b).toInt ≤ x1.toInt := by
          rw [Int32.lt_iff_toInt_lt] at ht; omega
        rcases h with ⟨h1, h2⟩ | ⟨c, h1, h2, h3, h4⟩
        · rw [h1]
          refine br_t (by decide) (nx _ (Or.inr ⟨b, rfl, fb, ht', ext _ (fun j hj hu hd hq => ?_) tb⟩))
          have := h2 j hj hu hd hq; omega
        · have cc : (nI c).toNatClampNeg = c := nI_clamp (by have := h2.1; omega)
          rw [h1, cc]
          refine br_f (tw_r_neg h2.1) ⟨vb, vp_in_nI h2.1 (by decide), ?_⟩
          by_cases hl : tm c ≤ tm b
          · refine br_t hl (nx _ (Or.inr ⟨c, rfl, h2, h3, ext _ h4 (fun j hj hq => ?_)⟩))
            have := tb j hj hq
            have := Int32.le_iff_toInt_le.mp hl
            omega
          · refine br_f hl (nx _ (Or.inr ⟨b, rfl, fb, ht', ext _ (fun j hj hu hd hq => ?_) tb⟩))
            have := h4 j hj hu hd hq
            rw [Int32.le_iff_toInt_le] at hl
            omega
theorem tw_earliest {post : Int32 → Prop} {x1 : Int32} (K : ∀ r, tw_er us dn pr tm (tw_ev tm pr va li) x1 4 r → post r) : wpX_earliest post (fi, fl, fo, fr, tg, dl, mk, us, tm, pr, va, li, dn, be, se, no, fs, fc, rc) x1 :=
  ⟨5, tw_earliest_l K 4 0 (-1) rfl (Or.inl ⟨rfl, fun j _ _ _ ⟨q, hq, _⟩ => absurd hq (by omega)⟩)⟩
def tw_qr (us dn tm : Nat → Int32) (t : Int) (j : Nat) : Bool := decide (us j ≠ 0 ∧ dn j ≠ 0 ∧ (tm j).toInt ≤ t)
theorem tw_work_l {post : Int32 → SX → Prop} {p : Nat} {x2 : Int32} (R : tw_ru tg dl mk) (B : tw_base inj F ln) (hp : p < 4)
    (K : ∀ (us' tm' pr' va' li' dn' be' se' no' rc' : Nat → Int32), tw_eng tg dl mk inj F ln 96 [] (tw_ev tm' pr' va' li') us' dn' be' se' no' → post 0 (fi, fl, fo, 0, tg, dl, mk, us', tm', pr', va', li', dn', be', se', no', fs, fc, rc')) :
    ∀ (m i : Nat) (us tm pr va li dn be se no rc : Nat → Int32), i + m = 96 → tw_eng tg dl mk inj F ln 96 [] (tw_ev tm pr va li) us dn be se no → wX_work_11 post (nI p) x2 (m + 1) (nI i) fi fl fo 0 tg dl mk us tm pr va li dn be se no fs fc rc := by
  intro m
  induction m with
  | zero =>
    intro i us tm pr va li dn be se no rc hi G
    have h96 : i = 96 := by omega
    have fin := K us tm pr va li dn be se no rc G
    rw [h96, wX_work_11]
    dsimp only
    exact br_c (fun _ => fin) (fun _ => br_t (by decide) fin)
  | succ m ih =>
    intro i us tm pr va li dn be se no rc hi G
    have fin := K us tm pr va li dn be se no rc G
    have hge : ¬ (96 : Int32) ≤ nI i := nI_ge (b := 96) (by omega) (by decide)
    rw [wX_work_11]
    dsimp only
    refine br_c (fun _ => fin) (fun _ => br_f hge ?_)
    refine tw_nextOf (fun r hr => ?_)
    rcases hr with ⟨a1, a2⟩ | ⟨b, b1, b2, b3, b4⟩
    · rw [a1]
      exact br_t (by decide) (nm_r (nI_1 i) (ih (i + 1) us tm pr va li dn be se no rc (by omega) G))
    · rw [b2]
      refine br_f (tw_r_neg b1) ?_
      refine tw_handle R B G rfl b1 b3.1 b3.2.1 hp b3.2.2 (fun j hj hu hd hp => b4 j hj ⟨hu, hd, hp⟩) (fun us' tm' pr' va' li' dn' be' se' no' rc' G' _ => ?_)
      exact nm_r (nI_1 i) (ih (i + 1) us' tm' pr' va' li' dn' be' se' no' rc' (by omega) G')
/-- all up to x1 is handled -/
theorem tw_reach_l {post : SX → Prop} {x1 : Int32} (R : tw_ru tg dl mk) (B : tw_base inj F ln)
    (K : ∀ (us' tm' pr' va' li' dn' be' se' no' rc' : Nat → Int32), tw_eng tg dl mk inj F ln 96 [] (tw_ev tm' pr' va' li') us' dn' be' se' no' → (∀ j, j < 96 → us' j ≠ 0 → dn' j = 0 → x1.toInt < (tm' j).toInt) → post (fi, fl, fo, 0, tg, dl, mk, us', tm', pr', va', li', dn', be', se', no', fs, fc, rc')) :
    ∀ (m i : Nat) (r : Int32) (t : Int) (us tm pr va li dn be se no rc : Nat → Int32), i + m = 97 → tw_eng tg dl mk inj F ln 96 [] (tw_ev tm pr va li) us dn be se no → tw_er us dn pr tm (tw_ev tm pr va li) x1 4 r →
      (∀ j, j < 96 → us j ≠ 0 → dn j = 0 → t ≤ (tm j).toInt) → i ≤ tw_cn (tw_qr us dn tm t) 96 → wX_reach_8 post x1 (m + 1) r (nI i) fi fl fo 0 tg dl mk us tm pr va li dn be se no fs fc rc := by
  intro m
  induction m with
  | zero =>
    intro i r t us tm pr va li dn be se no rc hi G hr ht hc
    have := tw_cn_le (tw_qr us dn tm t) 96
    omega
  | succ m ih =>
    intro i r t us tm pr va li dn be se no rc hi G hr ht hc
    have hle := tw_cn_le (tw_qr us dn tm t) 96
    have hge : ¬ (200 : Int32) ≤ nI i := nI_ge (b := 200) (by omega) (by decide)
    have pr4 : ∀ j, j < 96 → us j ≠ 0 → ∃ q, q < 4 ∧ pr j = nI q := by
      intro j hj hu
      obtain ⟨D, P, I, C⟩ := G
      exact (I.2.1 j hj hu).2.2
    rw [wX_reach_8]
    dsimp only
    refine br_f hge ?_
    rcases hr with ⟨h1, h2⟩ | ⟨b, h1, h2, h3, h4⟩
    · rw [h1]
      exact br_t (by decide) (K us tm pr va li dn be se no rc G (fun j hj hu hd => h2 j hj hu hd (pr4 j hj hu)))
    · rw [h1]
      obtain ⟨b1, b2, b3, p, hp, hpb, hmin⟩ := h2
      refine br_f (tw_r_neg b1) ?_
      refine tw_handle R B G rfl b1 b2 b3 hp hpb hmin (fun us' tm' pr' va' li' dn' be' se' no' rc' G' hf => ?_)
      dsimp only
      refine tw_earliest (fun r' hr' => nm_r (nI_1 i) ?_)
      have tb := ht b b1 b2 b3
      refine ih (i + 1) r' (tm b).toInt us' tm' pr' va' li' dn' be' se' no' rc' (by omega) G' hr' (fun j hj hu hd => ?_) ?_
      · rcases hf.2 j hj hu hd with ⟨c1, c2, _, c4⟩ | c
        · rw [c4]; exact h4 j hj c1 c2 (pr4 j hj c1)
        · omega
      · have inc := tw_cn_lt (q := tw_qr us dn tm t) (q' := tw_qr us' dn' tm' (tm b).toInt) (n := 96) (e := b) (fun j hj hq => by
          have hq' := of_decide_eq_true hq
          have f := hf.1 j hj hq'.1 (by omega)
          exact decide_eq_true ⟨f.1, f.2.2 (Or.inl hq'.2.1), by rw [f.2.1]; omega⟩) b1 (decide_eq_false (fun c => c.2.1 b3)) (by
          have f := hf.1 b b1 b2 (by omega)
          exact decide_eq_true ⟨f.1, f.2.2 (Or.inr rfl), by rw [f.2.1]; omega⟩)
        omega
theorem tw_reach {post : SX → Prop} {x1 : Int32} (R : tw_ru tg dl mk) (B : tw_base inj F ln) (G : tw_eng tg dl mk inj F ln 96 [] (tw_ev tm pr va li) us dn be se no) (hfr : fr = 0)
    (K : ∀ (us' tm' pr' va' li' dn' be' se' no' rc' : Nat → Int32), tw_eng tg dl mk inj F ln 96 [] (tw_ev tm' pr' va' li') us' dn' be' se' no' → (∀ j, j < 96 → us' j ≠ 0 → dn' j = 0 → x1.toInt < (tm' j).toInt) → post (fi, fl, fo, 0, tg, dl, mk, us', tm', pr', va', li', dn', be', se', no', fs, fc, rc')) :
    wpX_reach post (fi, fl, fo, fr, tg, dl, mk, us, tm, pr, va, li, dn, be, se, no, fs, fc, rc) x1 := by
  subst hfr
  unfold wpX_reach
  dsimp only
  refine tw_earliest (fun r hr => ⟨98, ?_⟩)
  refine tw_reach_l R B K 97 0 r (-1) us tm pr va li dn be se no rc rfl G hr (fun j hj hu hd => ?_) (Nat.zero_le _)
  obtain ⟨D, P, I, C⟩ := G
  have o := (I.2.1 j hj hu).1.1
  have o' : 0 ≤ (tm j).toInt := o
  omega
end
end
section
def tw_uh (H : Nat → List tw_Ev) (p : Nat) (L : List tw_Ev) : Nat → List tw_Ev := fun q => if q = p then L else H q
theorem tw_uh_s {H : Nat → List tw_Ev} {p : Nat} {L : List tw_Ev} : tw_uh H p L p = L := if_pos rfl
theorem tw_uh_n {H : Nat → List tw_Ev} {p q : Nat} {L : List tw_Ev} (h : q ≠ p) : tw_uh H p L q = H q := if_neg h
theorem tw_kle_tr {a b c : tw_Ev} (h1 : tw_kle a b) (h2 : tw_kle b c) : tw_kle a c := by unfold tw_kle tw_kl at *; omega
theorem tw_kle_rf {a : tw_Ev} : tw_kle a a := by unfold tw_kle tw_kl; omega
theorem tw_kle_lt {a b : tw_Ev} (h : tw_t a < tw_t b) : tw_kle a b := by unfold tw_kle tw_kl; omega
/-- the last time of those handled -/
def tw_mx (H : Nat → List tw_Ev) (m : Int32) : Prop :=
  (m = -1 ∧ ∀ p, p < 4 → H p = []) ∨ ((∃ p, p < 4 ∧ ∃ e ∈ H p, e.1 = m) ∧ ∀ p, p < 4 → ∀ e ∈ H p, tw_t e ≤ m.toInt)
/-- Y on its way: n events, H handled by process, P the places that wait, K what is still to be put -/
def tw_yi (tg dl mk : Nat → Int32) (inj : List tw_Ev) (T : Int) (n : Nat) (H : Nat → List tw_Ev) (P : List Nat) (K : List tw_Ev) (E : Nat → tw_Ev) (yl : Int32) (yn st hb : Nat → Int32) : Prop :=
  (inj.length ≤ n ∧ (List.range inj.length).map E = inj) ∧
  (P.Nodup ∧ ∀ i, i ∈ P ↔ i < n ∧ yn i = 0) ∧
  (∀ i, i < n → tw_ok (E i) ∧ ∃ p, p < 4 ∧ (E i).2.1 = nI p) ∧
  (∀ p, p < 4 → (H p).Pairwise tw_kle ∧ ∀ e ∈ H p, (tw_ok e ∧ tw_t e ≤ T ∧ e.2.1 = nI p) ∧ ∀ i ∈ P, tw_kle e (E i)) ∧
  (∀ p, p < 4 → st p = tw_run 0 (H p) ∧ hb p = nI (H p).length) ∧
  tw_CE tg dl mk inj H (P.map E ++ K) [] ∧
  n = P.length + tw_s4 (fun p => (H p).length) ∧
  tw_mx H yl
section
variable {tg dl mk : Nat → Int32} {inj : List tw_Ev} {T : Int} {n : Nat} {H : Nat → List tw_Ev} {P : List Nat} {K : List tw_Ev} {E : Nat → tw_Ev} {yl : Int32} {yn st hb : Nat → Int32}
theorem tw_y0 (hE : (List.range inj.length).map E = inj) (ho : ∀ c ∈ inj, tw_ok c ∧ ∃ p, p < 4 ∧ c.2.1 = nI p) (hn : ∀ i, i < 96 → yn i = 0) (hk : inj.length ≤ 96) (hs : ∀ p, p < 4 → st p = 0 ∧ hb p = 0) :
    tw_yi tg dl mk inj T inj.length (fun _ => []) (List.range inj.length) [] E (-1) yn st hb := by
  refine ⟨⟨Nat.le_refl _, hE⟩, ⟨List.nodup_range, fun i => ?_⟩, fun i hi => ?_, fun p hp => ⟨List.Pairwise.nil, fun e he => absurd he List.not_mem_nil⟩, fun p hp => hs p hp, fun c => ?_, ?_, Or.inl ⟨rfl, fun _ _ => rfl⟩⟩
  · rw [List.mem_range]
    exact ⟨fun h => ⟨h, hn i (by omega)⟩, fun h => h.1⟩
  · apply ho
    have : E i ∈ (List.range inj.length).map E := List.mem_map_of_mem (List.mem_range.mpr hi)
    rw [hE] at this
    exact this
  · rw [hE, List.append_nil, List.count_nil]
    rfl
  · rw [List.length_range]
    rfl
theorem tw_y_bound (R : tw_ru tg dl mk) (h24 : inj.length ≤ 24 ∧ ∀ c ∈ inj, tw_l c ≤ 3) (I : tw_yi tg dl mk inj T n H P K E yl yn st hb) : tw_w (P.map E) + tw_s4 (fun p => (H p).length) ≤ 96 := by
  obtain ⟨i1, i2, i3, i4, i5, i6, i7, i8⟩ := I
  have bd := tw_bound R i6 (fun p hp e he => ((i4 p hp).2 e he).1.1)
  rw [tw_w_app] at bd
  have wi := tw_w_le h24.2
  have w0 : tw_w [] = 0 := rfl
  have := h24.1
  omega
theorem tw_y_n (R : tw_ru tg dl mk) (h24 : inj.length ≤ 24 ∧ ∀ c ∈ inj, tw_l c ≤ 3) (I : tw_yi tg dl mk inj T n H P K E yl yn st hb) : n ≤ 96 ∧ ((∃ e ∈ P, 1 ≤ tw_l (E e)) → n < 96) := by
  have b := tw_y_bound R h24 I
  have i7 := I.2.2.2.2.2.2.1
  have wl := tw_w_len (P.map E)
  rw [List.length_map] at wl
  refine ⟨by omega, fun ⟨e, he, hl⟩ => ?_⟩
  have w1 := tw_w_len1 hl (List.mem_map_of_mem (f := E) he)
  rw [List.length_map] at w1
  omega
/-- e, the first of those that wait, is handled; what it sends is owed -/
theorem tw_yh {e p : Nat} (R : tw_ru tg dl mk) (I : tw_yi tg dl mk inj T n H P [] E yl yn st hb) (hp : p < 4) (he : e ∈ P) (hpe : (E e).2.1 = nI p) (hT : tw_t (E e) ≤ T) (hmin : ∀ j ∈ P, tw_kle (E e) (E j)) :
    tw_yi tg dl mk inj T n (tw_uh H p (H p ++ [E e])) (P.erase e) (tw_chd tg dl mk p (tw_stp (st p) (E e).2.2.1) (E e)) E (E e).1 (upd yn e 1) (upd st p (tw_stp (st p) (E e).2.2.1)) (upd hb p (hb p + 1)) := by
  obtain ⟨i1, ⟨i2, i2'⟩, i3, i4, i5, i6, i7, i8⟩ := I
  have em := (i2' e).mp he
  have sub : ∀ q, q < 4 → ∀ c, c ∈ tw_uh H p (H p ++ [E e]) q ↔ c ∈ H q ∨ (c = E e ∧ q = p) := by
    intro q hq i
    by_cases hqp : q = p
    · rw [hqp, tw_uh_s, List.mem_append, List.mem_singleton]
      exact ⟨fun h => h.elim Or.inl (fun z => Or.inr ⟨z, rfl⟩), fun h => h.elim Or.inl (fun z => Or.inr z.1)⟩
    · rw [tw_uh_n hqp]
      exact ⟨Or.inl, fun h => h.elim id (fun z => absurd z.2 hqp)⟩
  refine ⟨i1, ⟨i2.erase e, fun i => ?_⟩, i3, fun q hq => ⟨?_, fun c hc => ?_⟩, fun q hq => ?_, fun c => ?_, ?_, Or.inr ⟨⟨p, hp, E e, (sub p hp _).mpr (Or.inr ⟨rfl, rfl⟩), rfl⟩, fun q hq c hc => ?_⟩⟩
  · rw [i2.mem_erase_iff, i2' i]
    by_cases c : i = e
    · rw [c, tw_us]
      exact ⟨fun h => absurd rfl h.1, fun h => absurd h.2 (by decide)⟩
    · rw [tw_un c]
      exact ⟨fun h => h.2, fun h => ⟨c, h⟩⟩
  · by_cases hqp : q = p
    · rw [hqp, tw_uh_s, List.pairwise_append]
      refine ⟨(i4 p hp).1, List.pairwise_singleton _ _, fun a ha b hb => ?_⟩
      rw [List.mem_singleton.mp hb]
      exact ((i4 p hp).2 a ha).2 e he
    · rw [tw_uh_n hqp]
      exact (i4 q hq).1
  · rcases (sub q hq c).mp hc with h | ⟨h1, h2⟩
    · exact ⟨((i4 q hq).2 c h).1, fun i hi => ((i4 q hq).2 c h).2 i (List.mem_of_mem_erase hi)⟩
    · rw [h1, h2]
      exact ⟨⟨(i3 e em.1).1, hT, hpe⟩, fun i hi => hmin i (List.mem_of_mem_erase hi)⟩
  · by_cases hqp : q = p
    · rw [hqp, tw_uh_s, tw_us, tw_us, tw_run_app, ← (i5 p hp).1, (i5 p hp).2, nI_1, List.length_append]
      exact ⟨rfl, rfl⟩
    · rw [tw_uh_n hqp, tw_un hqp, tw_un hqp]
      exact i5 q hq
  · have h0 := i6 c
    rw [List.append_nil] at h0
    have u1 := tw_s4_u (f := fun q => (H q).count c) (g := fun q => (tw_uh H p (H p ++ [E e]) q).count c) hp (fun q _ hn => by
      show List.count c (tw_uh H p (H p ++ [E e]) q) = _
      rw [tw_uh_n hn])
    have u2 := tw_s4_u (f := fun q => (tw_kds tg dl mk q 0 (H q)).count c) (g := fun q => (tw_kds tg dl mk q 0 (tw_uh H p (H p ++ [E e]) q)).count c) hp (fun q _ hn => by
      show List.count c (tw_kds tg dl mk q 0 (tw_uh H p (H p ++ [E e]) q)) = _
      rw [tw_uh_n hn])
    have v1 : (tw_uh H p (H p ++ [E e]) p).count c = (H p).count c + [E e].count c := by rw [tw_uh_s, List.count_append]
    have v2 : (tw_kds tg dl mk p 0 (tw_uh H p (H p ++ [E e]) p)).count c = (tw_kds tg dl mk p 0 (H p)).count c + (tw_chd tg dl mk p (tw_stp (st p) (E e).2.2.1) (E e)).count c := by
      rw [tw_uh_s, tw_kds_app, List.count_append, ← (i5 p hp).1]
      show _ + List.count c (tw_chd tg dl mk p (tw_stp (st p) (E e).2.2.1) (E e) ++ []) = _
      rw [List.append_nil]
    have h1 : (P.map E).count c = ((P.erase e).map E).count c + [E e].count c := by
      rw [((List.perm_cons_erase he).map E).count_eq c]
      show List.count c ([E e] ++ (P.erase e).map E) = _
      rw [List.count_append, Nat.add_comm]
    rw [List.count_append, List.count_nil]
    rw [List.count_nil] at h0
    omega
  · have u1 := tw_s4_u (f := fun q => (H q).length) (g := fun q => (tw_uh H p (H p ++ [E e]) q).length) hp (fun q _ hn => by
      show (tw_uh H p (H p ++ [E e]) q).length = _
      rw [tw_uh_n hn])
    have v1 : (tw_uh H p (H p ++ [E e]) p).length = (H p).length + 1 := by rw [tw_uh_s, List.length_append]; rfl
    have l := List.length_erase_of_mem he
    have l0 := List.length_pos_of_mem he
    omega
  · rcases (sub q hq c).mp hc with h | ⟨h1, h2⟩
    · exact tw_kle_t (((i4 q hq).2 c h).2 e he)
    · rw [h1]; exact Int.le_refl _
/-- the owed child is put -/
theorem tw_yp {c : tw_Ev} {E' : Nat → tw_Ev} (I : tw_yi tg dl mk inj T n H P [c] E yl yn st hb) (ho : tw_ok c) (hq : ∃ p, p < 4 ∧ c.2.1 = nI p) (hH : ∀ p, p < 4 → ∀ e ∈ H p, tw_kle e c)
    (En : ∀ i, i ≠ n → E' i = E i) (Ec : E' n = c) : tw_yi tg dl mk inj T (n + 1) H (n :: P) [] E' yl (upd yn n 0) st hb := by
  obtain ⟨⟨i1, i1'⟩, ⟨i2, i2'⟩, i3, i4, i5, i6, i7, i8⟩ := I
  have nP : ∀ i ∈ P, i ≠ n := fun i hi => by have := ((i2' i).mp hi).1; omega
  refine ⟨⟨by omega, ?_⟩, ⟨List.nodup_cons.mpr ⟨fun h => nP n h rfl, i2⟩, fun i => ?_⟩, fun i hi => ?_, fun p hp => ⟨(i4 p hp).1, fun e he => ⟨((i4 p hp).2 e he).1, fun i hi => ?_⟩⟩, i5, fun d => ?_, ?_, i8⟩
  · rw [← i1', List.length_map, List.length_range]
    apply List.map_congr_left
    intro i hi
    exact En i (by have := List.mem_range.mp hi; omega)
  · rw [List.mem_cons, i2' i]
    by_cases z : i = n
    · rw [z, tw_us]
      exact ⟨fun _ => ⟨by omega, rfl⟩, fun _ => Or.inl rfl⟩
    · rw [tw_un z]
      exact ⟨fun h => h.elim (fun y => absurd y z) (fun y => ⟨by omega, y.2⟩), fun h => Or.inr ⟨by omega, h.2⟩⟩
  · by_cases z : i = n
    · rw [z, Ec]; exact ⟨ho, hq⟩
    · rw [En i z]; exact i3 i (by omega)
  · rcases List.mem_cons.mp hi with z | z
    · rw [z, Ec]; exact hH p hp e he
    · rw [En i (nP i z)]; exact ((i4 p hp).2 e he).2 i z
  · have h0 := i6 d
    have h1 : ((n :: P).map E').count d = (P.map E).count d + [c].count d := by
      show List.count d ([E' n] ++ P.map E') = _
      rw [List.count_append, Nat.add_comm, Ec, tw_map_cg (fun i hi => En i (nP i hi))]
    rw [List.append_nil, h1]
    rw [List.count_append] at h0
    exact h0
  · rw [List.length_cons]; omega
theorem tw_cl_cg {h h' : Nat → List tw_Ev} (e : ∀ p, p < 4 → h' p = h p) (A : tw_cl tg dl mk inj T h) : tw_cl tg dl mk inj T h' := by
  refine ⟨fun p hp => by rw [e p hp]; exact A.1 p hp, fun c hc => ?_⟩
  have h2 : tw_s4 (fun p => (h' p).count c) = tw_s4 (fun p => (h p).count c) := tw_s4_c (fun p hp => by rw [e p hp])
  have h3 : tw_s4 (fun p => (tw_kds tg dl mk p 0 (h' p)).count c) = tw_s4 (fun p => (tw_kds tg dl mk p 0 (h p)).count c) := tw_s4_c (fun p hp => by rw [e p hp])
  rw [h2, h3]
  exact A.2 c hc
theorem tw_y_cl (R : tw_ru tg dl mk) (I : tw_yi tg dl mk inj T n H P [] E yl yn st hb) (hP : ∀ i ∈ P, T < tw_t (E i)) : tw_cl tg dl mk inj T H := by
  obtain ⟨i1, i2, i3, i4, i5, i6, i7, i8⟩ := I
  rw [List.append_nil] at i6
  have c := tw_cl_of (T := T) R i6 (fun p hp => ⟨(i4 p hp).1, fun e he => ⟨((i4 p hp).2 e he).1.1, ((i4 p hp).2 e he).1.2.2⟩⟩) (fun e he => by
    obtain ⟨i, hi, z⟩ := List.mem_map.mp he
    rw [← z]; exact hP i hi)
  refine tw_cl_cg (fun p hp => ?_) c
  symm
  apply List.filter_eq_self.mpr
  intro e he
  exact decide_eq_true ((i4 p hp).2 e he).1.2.1
end
end
section
section
variable {yi yh yc yl : Int32} {yg yd ym ts ps vs ls yn st hb : Nat → Int32}
variable {inj : List tw_Ev}
theorem tw_put {post : SY → Prop} {a b c d : Int32} {n : Nat} (hn : n < 96) (hc : yc = nI n)
    (K : post (yi, yh, nI (n + 1), yl, yg, yd, ym, upd ts n b, upd ps n a, upd vs n c, upd ls n d, upd yn n 0, st, hb)) : wpY_put post (yi, yh, yc, yl, yg, yd, ym, ts, ps, vs, ls, yn, st, hb) a b c d := by
  subst hc
  have vn : vp_in (nI n) 96 := vp_in_nI hn (by decide)
  have cn : (nI n).toNatClampNeg = n := nI_clamp (by omega)
  unfold wpY_put
  dsimp only
  rw [cn, tw_b0]
  exact br_f (nI_ge (b := 96) (by omega) (by decide)) ⟨vn, nm_e ⟨vn, nm_e ⟨vn, nm_e ⟨vn, nm_e ⟨vn, nm_e (nm_r (nI_1 n) K)⟩⟩⟩⟩⟩
theorem tw_before {post : Int32 → Prop} {i j : Nat} (hi : i < 96) (hj : j < 96) (h1 : tw_kl (tw_ev ts ps vs ls i) (tw_ev ts ps vs ls j) → post 1) (h0 : ¬ tw_kl (tw_ev ts ps vs ls i) (tw_ev ts ps vs ls j) → post 0) :
    wpY_before post (yi, yh, yc, yl, yg, yd, ym, ts, ps, vs, ls, yn, st, hb) (nI i) (nI j) := by
  have ci : (nI i).toNatClampNeg = i := nI_clamp (by omega)
  have cj : (nI j).toNatClampNeg = j := nI_clamp (by omega)
  have vi : vp_in (nI i) 96 := vp_in_nI hi (by decide)
  have vj : vp_in (nI j) 96 := vp_in_nI hj (by decide)
  have ex : tw_kl (tw_ev ts ps vs ls i) (tw_ev ts ps vs ls j) ↔ ((ts i).toInt < (ts j).toInt ∨ ((ts i).toInt = (ts j).toInt ∧ ((vs i).toInt < (vs j).toInt ∨ ((vs i).toInt = (vs j).toInt ∧ (ls i).toInt < (ls j).toInt)))) := Iff.rfl
  rw [ex] at h1 h0
  have it : ∀ f : Nat → Int32, f i = f j ↔ (f i).toInt = (f j).toInt := fun f => Int32.toInt_inj.symm
  have le : ∀ f : Nat → Int32, f j ≤ f i ↔ (f j).toInt ≤ (f i).toInt := fun f => Int32.le_iff_toInt_le
  unfold wpY_before
  dsimp only
  rw [ci, cj, it ts, it vs, le ts, le vs, le ls]
  generalize (ts i).toInt = a1 at *
  generalize (ts j).toInt = a2 at *
  generalize (vs i).toInt = b1 at *
  generalize (vs j).toInt = b2 at *
  generalize (ls i).toInt = c1 at *
  generalize (ls j).toInt = c2 at *
  refine ⟨vi, vj, br_c (fun a => ⟨vi, vj, br_c (fun b => ⟨vi, vj, br_c (fun c => h0 (by omega)) (fun c => h1 (by omega))⟩) (fun b => ⟨vi, vj, br_c (fun d => h0 (by omega)) (fun d => h1 (by omega))⟩)⟩) (fun a => ⟨vi, vj, br_c (fun d => h0 (by omega)) (fun d => h1 (by omega))⟩)⟩
def tw_Qy (yn : Nat → Int32) (i : Nat) : Prop := yn i = 0
theorem tw_next_l {post : Int32 → Prop} {n : Nat} (hn : n ≤ 96) (hc : yc = nI n) (K : ∀ r, tw_best (tw_Qy yn) (fun a b => tw_kle (tw_ev ts ps vs ls a) (tw_ev ts ps vs ls b)) n r → post r) :
    ∀ (m i : Nat) (r : Int32), i + m = n → tw_best (tw_Qy yn) (fun a b => tw_kle (tw_ev ts ps vs ls a) (tw_ev ts ps vs ls b)) i r → wY_next_4 post yi yh yc yl yg yd ym ts ps vs ls yn st hb (m + 1) r (nI i) := by
  subst hc
  intro m
  induction m with
  | zero =>
    intro i r hi h
    have h96 : i = n := by omega
    rw [h96] at h ⊢
    rw [wY_next_4]
    dsimp only
    exact br_t (nI_le (Nat.le_refl n) (by omega)) (K r h)
  | succ m ih =>
    intro i r hi h
    have hge : ¬ nI n ≤ nI i := nI_ge (by omega) (by omega)
    have cl : (nI i).toNatClampNeg = i := nI_clamp (by omega)
    have vi : vp_in (nI i) 96 := vp_in_nI (by omega) (by decide)
    have nx : ∀ r', tw_best (tw_Qy yn) (fun a b => tw_kle (tw_ev ts ps vs ls a) (tw_ev ts ps vs ls b)) (i + 1) r' → ∀ y, y = nI i + 1 → wY_next_4 post yi yh (nI n) yl yg yd ym ts ps vs ls yn st hb (m + 1) r' y := fun r' h' => nm_r (nI_1 i) (ih (i + 1) r' (by omega) h')
    rw [wY_next_4]; dsimp only; rw [cl]
    refine br_f hge ⟨vi, ?_⟩
    by_cases hd : yn i = 0
    · refine br_t hd ?_
      rcases h with ⟨h1, h2⟩ | ⟨b, h1, h2, h3, h4⟩
      · rw [h1]
        exact br_t (by decide) (nx _ (tw_best_t h2 hd))
      · rw [h2]
        refine br_f (tw_r_neg (by omega)) ?_
        refine tw_before (by omega) (by omega) (fun s => ?_) (fun s => ?_)
        · refine br_f (by decide) (nx _ (tw_best_n (b := b) (fun _ _ _ => tw_kle_tr) h4 hd ?_))
          show tw_kle _ _
          unfold tw_kle tw_kl at *; omega
        · exact br_t rfl (nx _ (tw_best_k h1 rfl h3 h4 s))
    · exact br_f hd (nx r (tw_best_s h hd))
theorem tw_next {post : Int32 → Prop} {n : Nat} (hn : n ≤ 96) (hc : yc = nI n) (K : ∀ r, tw_best (tw_Qy yn) (fun a b => tw_kle (tw_ev ts ps vs ls a) (tw_ev ts ps vs ls b)) n r → post r) : wpY_next post (yi, yh, yc, yl, yg, yd, ym, ts, ps, vs, ls, yn, st, hb) :=
  ⟨n + 1, tw_next_l hn hc K n 0 (-1) (by omega) tw_best_0⟩
theorem tw_yhandle {post : SY → Prop} {T : Int} {n e p : Nat} {H : Nat → List tw_Ev} {P : List Nat} (R : tw_ru yg yd ym) (h24 : inj.length ≤ 24 ∧ ∀ c ∈ inj, tw_l c ≤ 3)
    (I : tw_yi yg yd ym inj T n H P [] (tw_ev ts ps vs ls) yl yn st hb) (hc : yc = nI n) (hp : p < 4) (he : e ∈ P) (hpe : ps e = nI p) (hT : (ts e).toInt ≤ T) (hmin : ∀ j ∈ P, tw_kle (tw_ev ts ps vs ls e) (tw_ev ts ps vs ls j))
    (K : ∀ (n' : Nat) (H' : Nat → List tw_Ev) (P' : List Nat) (yl' : Int32) (ts' ps' vs' ls' yn' st' hb' : Nat → Int32), tw_yi yg yd ym inj T n' H' P' [] (tw_ev ts' ps' vs' ls') yl' yn' st' hb' → tw_s4 (fun p => (H' p).length) = tw_s4 (fun p => (H p).length) + 1 → post (yi, yh, nI n', yl', yg, yd, ym, ts', ps', vs', ls', yn', st', hb')) :
    wpY_handle post (yi, yh, yc, yl, yg, yd, ym, ts, ps, vs, ls, yn, st, hb) (nI e) := by
  subst hc
  have nb := tw_y_n R h24 I
  have em := (I.2.1.2 e).mp he
  have e96 : e < 96 := by omega
  have ce : (nI e).toNatClampNeg = e := nI_clamp (by omega)
  have cp : (nI p).toNatClampNeg = p := nI_clamp (by omega)
  have ve : vp_in (nI e) 96 := vp_in_nI e96 (by decide)
  have vp : vp_in (nI p) 4 := vp_in_nI hp (by decide)
  have oke := (I.2.2.1 e em.1).1
  have I1 := tw_yh R I hp he hpe hT hmin
  have len : tw_s4 (fun q => (tw_uh H p (H p ++ [tw_ev ts ps vs ls e]) q).length) = tw_s4 (fun q => (H q).length) + 1 := by
    have u1 := tw_s4_u (f := fun q => (H q).length) (g := fun q => (tw_uh H p (H p ++ [tw_ev ts ps vs ls e]) q).length) hp (fun q _ hn => by
      show (tw_uh H p (H p ++ [tw_ev ts ps vs ls e]) q).length = _
      rw [tw_uh_n hn])
    have v1 : (tw_uh H p (H p ++ [tw_ev ts ps vs ls e]) p).length = (H p).length + 1 := by rw [tw_uh_s, List.length_append]; rfl
    omega
  have noch : tw_chd yg yd ym p (tw_stp (st p) (vs e)) (tw_ev ts ps vs ls e) = [] → post (yi, yh, nI n, ts e, yg, yd, ym, ts, ps, vs, ls, upd yn e 1, upd st p (tw_stp (st p) (vs e)), upd hb p (hb p + 1)) := by
    intro hc
    have hc' : tw_chd yg yd ym p (tw_stp (st p) (tw_ev ts ps vs ls e).2.2.1) (tw_ev ts ps vs ls e) = [] := hc
    rw [hc'] at I1
    exact K n _ _ _ ts ps vs ls _ _ _ I1 len
  unfold wpY_handle
  dsimp only
  rw [ce]
  refine ⟨ve, nm_r hpe ?_⟩
  rw [cp, tw_b1]
  refine ⟨ve, nm_e ⟨vp, ve, vp, nm_e ⟨vp, vp, nm_e ⟨ve, nm_e ⟨ve, ?_⟩⟩⟩⟩⟩
  rw [tw_us]
  have sst : st p * 5 + vs e + 1 = tw_stp (st p) (vs e) := rfl
  rw [sst]
  by_cases hl : ls e ≤ 0
  · refine br_t hl (noch ?_)
    unfold tw_chd
    rw [if_neg (fun h => tw_le0.mp hl h.1)]
  refine br_f hl ⟨vp, vp, ?_⟩
  by_cases hm : tw_stp (st p) (vs e) &&& ym p = 0
  · refine br_t hm ⟨vp, ve, vp, vp, ve, ?_⟩
    have hl' : 0 < (ls e).toInt := Decidable.not_not.mp (fun z => hl (tw_le0.mpr z))
    have hc : tw_chd yg yd ym p (tw_stp (st p) (vs e)) (tw_ev ts ps vs ls e) = [(ts e + yd p, yg p, (tw_stp (st p) (vs e) >>> ((2 : Int32) &&& 31)) &&& 15, ls e - 1)] := by
      unfold tw_chd
      rw [if_pos ⟨hl', hm⟩]
      rfl
    have n96 : n < 96 := nb.2 ⟨e, he, hl'⟩
    refine tw_put n96 rfl ?_
    dsimp only
    generalize hx2 : ts e + yd p = x2 at hc ⊢
    generalize hx3 : (tw_stp (st p) (vs e) >>> ((2 : Int32) &&& 31)) &&& 15 = x3 at hc ⊢
    generalize hx4 : ls e - 1 = x4 at hc ⊢
    obtain ⟨okc, ltc, pc⟩ : tw_ok (x2, yg p, x3, x4) ∧ tw_t (tw_ev ts ps vs ls e) < tw_t (x2, yg p, x3, x4) ∧ ∃ q, q < 4 ∧ yg p = nI q := by
      rcases tw_chd_c (tw_stp (st p) (vs e)) R hp oke with z | ⟨c', z, a, t, _, q⟩
      · rw [hc] at z; exact absurd z (by simp)
      · rw [hc] at z
        have z' : (x2, yg p, x3, x4) = c' := by simpa using z
        rw [← z'] at a t q
        exact ⟨a, t, q⟩
    have hc' : tw_chd yg yd ym p (tw_stp (st p) (tw_ev ts ps vs ls e).2.2.1) (tw_ev ts ps vs ls e) = [(x2, yg p, x3, x4)] := hc
    rw [hc'] at I1
    have mx : ∀ q, q < 4 → ∀ c ∈ tw_uh H p (H p ++ [tw_ev ts ps vs ls e]) q, tw_kle c (x2, yg p, x3, x4) := by
      intro q hq c hcm
      apply tw_kle_lt
      rcases I1.2.2.2.2.2.2.2 with ⟨_, z⟩ | ⟨_, z⟩
      · rw [z q hq] at hcm; exact absurd hcm List.not_mem_nil
      · have z1 : tw_t c ≤ tw_t (tw_ev ts ps vs ls e) := z q hq c hcm
        omega
    have I2 := tw_yp (E' := tw_ev (upd ts n x2) (upd ps n (yg p)) (upd vs n x3) (upd ls n x4)) I1 okc pc mx (fun i h => tw_ev_n h) tw_ev_s
    exact K (n + 1) _ _ _ _ _ _ _ _ _ _ I2 len
  · refine br_f hm (noch ?_)
    unfold tw_chd
    rw [if_neg (fun h => hm h.2)]
theorem tw_sim63 {post : SY → Prop} {x1 : Int32} (R : tw_ru yg yd ym) (h24 : inj.length ≤ 24 ∧ ∀ c ∈ inj, tw_l c ≤ 3)
    (K : ∀ (H : Nat → List tw_Ev) (yc' yl' : Int32) (ts' ps' vs' ls' yn' st' hb' : Nat → Int32), tw_cl yg yd ym inj x1.toInt H → (∀ p, p < 4 → st' p = tw_run 0 (H p) ∧ hb' p = nI (H p).length) → tw_mx H yl' → (List.range inj.length).map (tw_ev ts' ps' vs' ls') = inj → post (yi, yh, yc', yl', yg, yd, ym, ts', ps', vs', ls', yn', st', hb')) :
    ∀ (m i n : Nat) (H : Nat → List tw_Ev) (P : List Nat) (yl : Int32) (ts ps vs ls yn st hb : Nat → Int32), i + m = 96 → tw_yi yg yd ym inj x1.toInt n H P [] (tw_ev ts ps vs ls) yl yn st hb →
      (tw_s4 (fun p => (H p).length) = i ∨ ∀ j ∈ P, x1.toInt < (ts j).toInt) → wY_simulate_63 post x1 (m + 1) (nI i) yi yh (nI n) yl yg yd ym ts ps vs ls yn st hb := by
  intro m
  induction m with
  | zero =>
    intro i n H P yl ts ps vs ls yn st hb hi I hd
    have h96 : i = 96 := by omega
    rw [h96, wY_simulate_63]
    dsimp only
    refine br_t (by decide) ?_
    have hP : ∀ j ∈ P, x1.toInt < (ts j).toInt := by
      rcases hd with h | h
      · intro j hj
        have b := tw_y_bound R h24 I
        have l := List.length_pos_of_mem hj
        have wl := tw_w_len (P.map (tw_ev ts ps vs ls))
        rw [List.length_map] at wl
        omega
      · exact h
    exact K H (nI n) yl ts ps vs ls yn st hb (tw_y_cl R I hP) I.2.2.2.2.1 I.2.2.2.2.2.2.2 I.1.2
  | succ m ih =>
    intro i n H P yl ts ps vs ls yn st hb hi I hd
    have hge : ¬ (96 : Int32) ≤ nI i := nI_ge (b := 96) (by omega) (by decide)
    have nb := tw_y_n R h24 I
    rw [wY_simulate_63]
    dsimp only
    refine br_f hge ?_
    refine tw_next nb.1 rfl (fun r hr => ?_)
    have nx : (∀ j ∈ P, x1.toInt < (ts j).toInt) → ∀ y, y = nI i + 1 → wY_simulate_63 post x1 (m + 1) y yi yh (nI n) yl yg yd ym ts ps vs ls yn st hb := fun h => nm_r (nI_1 i) (ih (i + 1) n H P yl ts ps vs ls yn st hb (by omega) I (Or.inr h))
    rcases hr with ⟨a1, a2⟩ | ⟨b, b1, b2, b3, b4⟩
    · rw [a1]
      exact br_t (by decide) (nx (fun j hj => absurd ((I.2.1.2 j).mp hj).2 (a2 j ((I.2.1.2 j).mp hj).1)))
    · have cb : (nI b).toNatClampNeg = b := nI_clamp (by omega)
      have bP : b ∈ P := (I.2.1.2 b).mpr ⟨b1, b3⟩
      have mn : ∀ j ∈ P, tw_kle (tw_ev ts ps vs ls b) (tw_ev ts ps vs ls j) := by
        intro j hj
        have m := (I.2.1.2 j).mp hj
        rcases b4 j m.1 m.2 with z | z
        · rw [z]; exact tw_kle_rf
        · exact z
      rw [b2, cb]
      refine br_f (tw_r_neg (by omega)) ⟨vp_in_nI (by omega) (by decide), ?_⟩
      by_cases ht : x1 < ts b
      · refine br_t ht (nx (fun j hj => ?_))
        have h1 := Int32.lt_iff_toInt_lt.mp ht
        have h2 : (ts b).toInt ≤ (ts j).toInt := tw_kle_t (mn j hj)
        omega
      · refine br_f ht ?_
        rw [Int32.lt_iff_toInt_lt] at ht
        have hc : tw_s4 (fun p => (H p).length) = i := by
          rcases hd with h | h
          · exact h
          · exact absurd (h b bP) ht
        obtain ⟨p, hp, hpb⟩ := (I.2.2.1 b b1).2
        refine tw_yhandle R h24 I rfl hp bP hpb (by omega) mn (fun n' H' P' yl' ts' ps' vs' ls' yn' st' hb' I' len => ?_)
        exact nm_r (nI_1 i) (ih (i + 1) n' H' P' yl' ts' ps' vs' ls' yn' st' hb' (by omega) I' (Or.inl (by omega)))
theorem tw_sim36 {post : SY → Prop} {x1 : Int32} (K : ∀ st' hb' : Nat → Int32, (∀ p, p < 4 → st' p = 0 ∧ hb' p = 0) → ∃ n63, wY_simulate_63 post x1 n63 0 yi yh yc yl yg yd ym ts ps vs ls yn st' hb') :
    ∀ (m i : Nat) (st hb : Nat → Int32), i + m = 4 → (∀ p, p < i → st p = 0 ∧ hb p = 0) → wY_simulate_36 post x1 yi yh yc yl (m + 1) (nI i) yg yd ym ts ps vs ls yn st hb := by
  intro m
  induction m with
  | zero =>
    intro i st hb hi h
    have h4 : i = 4 := by omega
    rw [h4] at h ⊢
    rw [wY_simulate_36]
    dsimp only
    exact br_t (by decide) (K st hb h)
  | succ m ih =>
    intro i st hb hi h
    have hge : ¬ (4 : Int32) ≤ nI i := nI_ge (b := 4) (by omega) (by decide)
    have cl : (nI i).toNatClampNeg = i := nI_clamp (by omega)
    have vi : vp_in (nI i) 4 := vp_in_nI (by omega) (by decide)
    rw [wY_simulate_36]
    dsimp only
    rw [cl]
    refine br_f hge ⟨vi, nm_e ⟨vi, nm_e (nm_r (nI_1 i) (ih (i + 1) _ _ (by omega) (fun p hp => ?_)))⟩⟩
    by_cases c : p = i
    · rw [c, tw_us, tw_us]; exact ⟨rfl, rfl⟩
    · rw [tw_un c, tw_un c]; exact h p (by omega)
theorem tw_sim15 {post : SY → Prop} {x1 : Int32} (K : ∀ yn' : Nat → Int32, (∀ p, p < 96 → yn' p = 0) → ∃ n36, wY_simulate_36 post x1 yi yh yc yl n36 0 yg yd ym ts ps vs ls yn' st hb) :
    ∀ (m i : Nat) (yn : Nat → Int32), i + m = 96 → (∀ p, p < i → yn p = 0) → wY_simulate_15 post x1 yi yh yc yl (m + 1) (nI i) yg yd ym ts ps vs ls yn st hb := by
  intro m
  induction m with
  | zero =>
    intro i yn hi h
    have h96 : i = 96 := by omega
    rw [h96] at h ⊢
    rw [wY_simulate_15]
    dsimp only
    exact br_t (by decide) (K yn h)
  | succ m ih =>
    intro i yn hi h
    have hge : ¬ (96 : Int32) ≤ nI i := nI_ge (b := 96) (by omega) (by decide)
    have cl : (nI i).toNatClampNeg = i := nI_clamp (by omega)
    have vi : vp_in (nI i) 96 := vp_in_nI (by omega) (by decide)
    rw [wY_simulate_15]
    dsimp only
    rw [cl, tw_b0]
    refine br_f hge ⟨vi, nm_e (nm_r (nI_1 i) (ih (i + 1) _ (by omega) (fun p hp => ?_)))⟩
    by_cases c : p = i
    · rw [c, tw_us]
    · rw [tw_un c]; exact h p (by omega)
theorem tw_simulate {post : SY → Prop} {x1 : Int32} (R : tw_ru yg yd ym) (h24 : inj.length ≤ 24 ∧ ∀ c ∈ inj, tw_l c ≤ 3) (ho : ∀ c ∈ inj, tw_ok c ∧ ∃ p, p < 4 ∧ c.2.1 = nI p) (hi : yi = nI inj.length) (hE : (List.range inj.length).map (tw_ev ts ps vs ls) = inj)
    (K : ∀ (H : Nat → List tw_Ev) (yc' yl' : Int32) (ts' ps' vs' ls' yn' st' hb' : Nat → Int32), tw_cl yg yd ym inj x1.toInt H → (∀ p, p < 4 → st' p = tw_run 0 (H p) ∧ hb' p = nI (H p).length) → tw_mx H yl' → (List.range inj.length).map (tw_ev ts' ps' vs' ls') = inj → post (yi, yh, yc', yl', yg, yd, ym, ts', ps', vs', ls', yn', st', hb')) :
    wpY_simulate post (yi, yh, yc, yl, yg, yd, ym, ts, ps, vs, ls, yn, st, hb) x1 := by
  subst hi
  refine ⟨97, tw_sim15 (fun yn' hyn => ⟨5, tw_sim36 (fun st' hb' hst => ⟨97, ?_⟩) 4 0 st hb rfl (fun p hp => absurd hp (by omega))⟩) 96 0 yn rfl (fun p hp => absurd hp (by omega))⟩
  exact tw_sim63 R h24 K 96 0 inj.length (fun _ => []) (List.range inj.length) (-1) ts ps vs ls yn' st' hb' rfl (tw_y0 hE ho hyn (by omega) hst) (Or.inl rfl)
end
end
section
/-- of process p's handled ones those up to T, the folded ones first -/
def tw_AH (F : Nat → List tw_Ev) (D : Nat → List Nat) (E : Nat → tw_Ev) (T : Int) (p : Nat) : List tw_Ev := F p ++ ((D p).filter (fun i => decide (tw_t (E i) ≤ T))).map E
section
variable {tg dl mk : Nat → Int32} {inj : List tw_Ev} {F : Nat → List tw_Ev} {ln T : Int} {D : Nat → List Nat} {P : List Nat} {E : Nat → tw_Ev} {us dn be se no : Nat → Int32}
theorem tw_hsort (B : tw_base inj F ln) (I : tw_iv tg dl mk F ln 96 D P [] E us dn be se no) : ∀ p, p < 4 → (tw_hh F D E p).Pairwise tw_kle := by
  intro p hp
  show (F p ++ (D p).map E).Pairwise tw_kle
  rw [List.pairwise_append]
  refine ⟨(B.2.2 p hp).1, ?_, fun a ha b hb => ?_⟩
  · rw [List.pairwise_map]
    exact (I.2.2.1 p hp).1.imp (fun h => tw_so_kle h)
  · obtain ⟨i, hi, ei⟩ := List.mem_map.mp hb
    have m := (I.1.2.2 p hp i).mp hi
    have t1 := ((B.2.2 p hp).2 a ha).2.1
    have t2 := (I.2.1 i m.1 m.2.1).2.1
    rw [← ei]
    exact tw_kle_lt (by omega)
theorem tw_xcl (R : tw_ru tg dl mk) (B : tw_base inj F ln) (I : tw_iv tg dl mk F ln 96 D P [] E us dn be se no) (C : tw_CE tg dl mk inj (tw_hh F D E) (P.map E) []) (hT : ln ≤ T)
    (hP : ∀ j, j < 96 → us j ≠ 0 → dn j = 0 → T < tw_t (E j)) : tw_cl tg dl mk inj T (tw_AH F D E T) := by
  have c := tw_cl_of (T := T) R C (fun p hp => ⟨tw_hsort B I p hp, tw_hok B I p hp⟩) (fun e he => by
    obtain ⟨i, hi, z⟩ := List.mem_map.mp he
    have m := (I.1.2.1 i).mp hi
    rw [← z]; exact hP i m.1 m.2.1 m.2.2)
  refine tw_cl_cg (fun p hp => ?_) c
  show F p ++ ((D p).filter (fun i => decide (tw_t (E i) ≤ T))).map E = (F p ++ (D p).map E).filter (fun e => decide (tw_t e ≤ T))
  rw [List.filter_append, List.filter_map]
  congr 1
  symm
  apply List.filter_eq_self.mpr
  intro e he
  have := ((B.2.2 p hp).2 e he).2.1
  exact decide_eq_true (by omega)
theorem tw_dsplit (I : tw_iv tg dl mk F ln 96 D P [] E us dn be se no) (T : Int) : ∀ p, p < 4 → D p = (D p).filter (fun i => decide (tw_t (E i) ≤ T)) ++ (D p).filter (fun i => decide (T < tw_t (E i))) :=
  fun p hp => tw_split (fun i => tw_t (E i)) T (D p) ((I.2.2.1 p hp).1.imp (fun h => tw_so_t h))
theorem tw_dnd (I : tw_iv tg dl mk F ln 96 D P [] E us dn be se no) : ∀ p, p < 4 → (D p).Nodup := by
  intro p hp
  refine ((I.2.2.1 p hp).1).imp (fun {a b} s z => ?_)
  rw [z] at s
  exact tw_so_ir s
theorem tw_mx_u {H : Nat → List tw_Ev} {m m' : Int32} (h : tw_mx H m) (h' : tw_mx H m') : m = m' := by
  rcases h with ⟨a, b⟩ | ⟨⟨p, hp, e, he, ee⟩, b⟩
  · rcases h' with ⟨a', _⟩ | ⟨⟨p, hp, e, he, _⟩, _⟩
    · rw [a, a']
    · rw [b p hp] at he; exact absurd he List.not_mem_nil
  · rcases h' with ⟨_, b'⟩ | ⟨⟨p', hp', e', he', ee'⟩, b'⟩
    · rw [b' p hp] at he; exact absurd he List.not_mem_nil
    · have x := b' p hp e he
      have y := b p' hp' e' he'
      have ex : tw_t e = m.toInt := by rw [← ee]; rfl
      have ey : tw_t e' = m'.toInt := by rw [← ee']; rfl
      exact Int32.toInt_inj.mp (by omega)
theorem tw_mx_cg {H H' : Nat → List tw_Ev} {m : Int32} (e : ∀ p, p < 4 → H' p = H p) (h : tw_mx H m) : tw_mx H' m := by
  rcases h with ⟨a, b⟩ | ⟨⟨p, hp, c, hc, ee⟩, b⟩
  · exact Or.inl ⟨a, fun p hp => by rw [e p hp]; exact b p hp⟩
  · exact Or.inr ⟨⟨p, hp, c, by rw [e p hp]; exact hc, ee⟩, fun q hq => by rw [e q hq]; exact b q hq⟩
/-- m: the greatest of fo and the times up to T of used places below i -/
def tw_ms (us tm : Nat → Int32) (T : Int) (fo : Int32) (i : Nat) (m : Int32) : Prop :=
  (m = fo ∨ ∃ j, j < i ∧ us j ≠ 0 ∧ (tm j).toInt ≤ T ∧ m = tm j) ∧ fo.toInt ≤ m.toInt ∧ ∀ j, j < i → us j ≠ 0 → (tm j).toInt ≤ T → (tm j).toInt ≤ m.toInt
theorem tw_ms_0 {us tm : Nat → Int32} {fo : Int32} : tw_ms us tm T fo 0 fo := ⟨Or.inl rfl, Int.le_refl _, fun j hj => absurd hj (by omega)⟩
theorem tw_ms_s {us tm : Nat → Int32} {fo m : Int32} {i : Nat} (h : tw_ms us tm T fo i m) (c : us i ≠ 0 → (tm i).toInt ≤ T → (tm i).toInt ≤ m.toInt) : tw_ms us tm T fo (i + 1) m := by
  obtain ⟨h1, h2, h3⟩ := h
  refine ⟨h1.imp id (fun ⟨j, hj, r⟩ => ⟨j, by omega, r⟩), h2, fun j hj hu ht => ?_⟩
  by_cases z : j = i
  · rw [z] at hu ht ⊢; exact c hu ht
  · exact h3 j (by omega) hu ht
theorem tw_ms_n {us tm : Nat → Int32} {fo m : Int32} {i : Nat} (h : tw_ms us tm T fo i m) (hu : us i ≠ 0) (ht : (tm i).toInt ≤ T) (c : m.toInt ≤ (tm i).toInt) : tw_ms us tm T fo (i + 1) (tm i) := by
  obtain ⟨h1, h2, h3⟩ := h
  refine ⟨Or.inr ⟨i, by omega, hu, ht, rfl⟩, by omega, fun j hj hu ht => ?_⟩
  by_cases z : j = i
  · rw [z]; exact Int.le_refl _
  · have := h3 j (by omega) hu ht; omega
end
section
variable {fi fl fo fr : Int32} {tg dl mk us tm pr va li dn be se no fs fc rc : Nat → Int32}
variable {inj : List tw_Ev} {F : Nat → List tw_Ev} {ln : Int} {D : Nat → List Nat} {P : List Nat}
theorem tw_mx_x {T : Int} {m : Int32} (I : tw_iv tg dl mk F ln 96 D P [] (tw_ev tm pr va li) us dn be se no) (hP : ∀ j, j < 96 → us j ≠ 0 → dn j = 0 → T < tw_t (tw_ev tm pr va li j)) (hF : tw_mx F fo) (h : tw_ms us tm T fo 96 m) :
    tw_mx (tw_AH F D (tw_ev tm pr va li) T) m := by
  obtain ⟨h1, h2, h3⟩ := h
  have all : ∀ p, p < 4 → ∀ e ∈ tw_AH F D (tw_ev tm pr va li) T p, e ∈ F p ∨ ∃ j, j < 96 ∧ us j ≠ 0 ∧ (tm j).toInt ≤ T ∧ e = tw_ev tm pr va li j := by
    intro p hp e he
    rcases List.mem_append.mp he with w | w
    · exact Or.inl w
    · obtain ⟨j, hj, ej⟩ := List.mem_map.mp w
      have mf := List.mem_filter.mp hj
      have mm := (I.1.2.2 p hp j).mp mf.1
      exact Or.inr ⟨j, mm.1, mm.2.1, of_decide_eq_true mf.2, ej.symm⟩
  have bnd : (∀ p, p < 4 → ∀ e ∈ F p, tw_t e ≤ fo.toInt) → ∀ p, p < 4 → ∀ e ∈ tw_AH F D (tw_ev tm pr va li) T p, tw_t e ≤ m.toInt := by
    intro hb p hp e he
    rcases all p hp e he with w | ⟨j, hj, hu, ht, ee⟩
    · have := hb p hp e w; omega
    · rw [ee]; exact h3 j hj hu ht
  have fb : ∀ p, p < 4 → ∀ e ∈ F p, tw_t e ≤ fo.toInt := by
    rcases hF with ⟨_, b⟩ | ⟨_, b⟩
    · intro p hp e he; rw [b p hp] at he; exact absurd he List.not_mem_nil
    · exact b
  rcases h1 with h1 | ⟨j, hj, hu, ht, ej⟩
  · rcases hF with ⟨a, b⟩ | ⟨⟨p, hp, c, hc, ee⟩, b⟩
    · left
      refine ⟨h1.trans a, fun p hp => List.eq_nil_iff_forall_not_mem.mpr (fun e he => ?_)⟩
      rcases all p hp e he with w | ⟨j, hj, hu, ht, ee⟩
      · rw [b p hp] at w; exact absurd w List.not_mem_nil
      · have o : 0 ≤ (tm j).toInt := (I.2.1 j hj hu).1.1
        have l := h3 j hj hu ht
        rw [h1, a] at l
        have z : (-1 : Int32).toInt = -1 := by decide
        omega
    · exact Or.inr ⟨⟨p, hp, c, List.mem_append_left _ hc, ee.trans h1.symm⟩, bnd fb⟩
  · right
    obtain ⟨p, hp, hpj⟩ := (I.2.1 j hj hu).2.2
    have dj : dn j ≠ 0 := fun z => by have := hP j hj hu z; have t : tw_t (tw_ev tm pr va li j) = (tm j).toInt := rfl; omega
    have jD := (I.1.2.2 p hp j).mpr ⟨hj, hu, dj, hpj⟩
    exact ⟨⟨p, hp, tw_ev tm pr va li j, List.mem_append_right _ (List.mem_map_of_mem (List.mem_filter.mpr ⟨jD, decide_eq_true ht⟩)), ej.symm⟩, bnd fb⟩
theorem tw_xstate {post : Int32 → Prop} {p : Nat} {x2 : Int32} (I : tw_iv tg dl mk F ln 96 D P [] (tw_ev tm pr va li) us dn be se no) (hp : p < 4) (K : post (tw_run 0 (tw_AH F D (tw_ev tm pr va li) x2.toInt p))) : wpX_stateAt post (fi, fl, fo, fr, tg, dl, mk, us, tm, pr, va, li, dn, be, se, no, fs, fc, rc) (nI p) x2 := by
  have cp : (nI p).toNatClampNeg = p := nI_clamp (by omega)
  have sp := tw_dsplit I x2.toInt p hp
  have dp := I.2.2.2.1 p hp
  rw [sp] at dp
  obtain ⟨m, m1, m2⟩ := tw_chn_app.mp dp
  have hm : m = tw_run 0 (tw_AH F D (tw_ev tm pr va li) x2.toInt p) := by
    rw [tw_chn_run m1]
    unfold tw_AH
    rw [tw_run_app]
  have Bm : ∀ i, i ∈ (D p).filter (fun i => decide (x2.toInt < tw_t (tw_ev tm pr va li i))) ↔ i < 96 ∧ tw_Qs us dn pr tm (nI p) x2 i := by
    intro i
    rw [List.mem_filter, I.1.2.2 p hp i, decide_eq_true_eq]
    unfold tw_Qs
    rw [Int32.le_iff_toInt_le]
    have t : tw_t (tw_ev tm pr va li i) = (tm i).toInt := rfl
    have q : (tw_ev tm pr va li i).2.1 = pr i := rfl
    rw [t, q]
    constructor
    · rintro ⟨⟨a, b, c, d⟩, e⟩
      exact ⟨a, b, c, d, by omega⟩
    · rintro ⟨a, b, c, d, e⟩
      exact ⟨⟨a, b, c, d⟩, by omega⟩
  refine tw_stateAt (vp_in_nI hp (by decide)) (fun h => ?_) (fun b hb hq hmin => ?_)
  · have z : (D p).filter (fun i => decide (x2.toInt < tw_t (tw_ev tm pr va li i))) = [] := List.eq_nil_iff_forall_not_mem.mpr (fun i hi => h i ((Bm i).mp hi).1 ((Bm i).mp hi).2)
    rw [z] at m2
    have m2' : no p = m := m2
    rw [cp, m2', hm]
    exact K
  · have bB := (Bm b).mpr ⟨hb, hq⟩
    have pw := (I.2.2.1 p hp).1
    rw [sp] at pw
    have pwB := (List.pairwise_append.mp pw).2.1
    generalize (D p).filter (fun i => decide (x2.toInt < tw_t (tw_ev tm pr va li i))) = L at m2 bB pwB Bm
    cases L with
    | nil => exact absurd bB List.not_mem_nil
    | cons c L =>
      have cq := (Bm c).mp List.mem_cons_self
      have hc : c = b := by
        rcases hmin c cq.1 cq.2 with y | y
        · exact y
        · exfalso
          rcases List.mem_cons.mp bB with w | w
          · rw [w] at y; exact tw_so_ir y
          · exact tw_so_as y ((List.pairwise_cons.mp pwB).1 b w)
      have m3 : be c = m := m2.1
      rw [← hc, m3, hm]
      exact K
theorem tw_xcount {p : Nat} {x2 : Int32} (I : tw_iv tg dl mk F ln 96 D P [] (tw_ev tm pr va li) us dn be se no) (hp : p < 4) (hP : ∀ j, j < 96 → us j ≠ 0 → dn j = 0 → x2.toInt < (tm j).toInt) :
    nI (F p).length + nI (tw_cn (tw_qc us pr tm (nI p) x2) 96) = nI (tw_AH F D (tw_ev tm pr va li) x2.toInt p).length := by
  have c : tw_cn (tw_qc us pr tm (nI p) x2) 96 = ((D p).filter (fun i => decide (tw_t (tw_ev tm pr va li i) ≤ x2.toInt))).length := by
    apply tw_cn_l ((tw_dnd I p hp).filter _)
    intro j
    rw [List.mem_filter, I.1.2.2 p hp j, decide_eq_true_eq]
    unfold tw_qc
    rw [decide_eq_true_eq, Int32.lt_iff_toInt_lt]
    have t : tw_t (tw_ev tm pr va li j) = (tm j).toInt := rfl
    have q : (tw_ev tm pr va li j).2.1 = pr j := rfl
    rw [t, q]
    constructor
    · rintro ⟨⟨a, b, c, d⟩, e⟩
      exact ⟨a, b, d, by omega⟩
    · rintro ⟨a, b, d, e⟩
      refine ⟨⟨a, b, fun z => e (hP j a b z), d⟩, by omega⟩
  rw [c, nI_add]
  unfold tw_AH
  rw [List.length_append, List.length_map]
theorem tw_lastTime_l {post : Int32 → SX → Prop} {T : Int} (hT : ∀ j, j < 96 → us j ≠ 0 → (tm j).toInt ≤ T) (K : ∀ m, tw_ms us tm T fo 96 m → post m (fi, fl, fo, fr, tg, dl, mk, us, tm, pr, va, li, dn, be, se, no, fs, fc, rc)) :
    ∀ (m i : Nat) (r : Int32), i + m = 96 → tw_ms us tm T fo i r → wX_lastTime_14 post fi fl fo fr tg dl mk us tm pr va li dn be se no fs fc rc (m + 1) r (nI i) := by
  intro m
  induction m with
  | zero =>
    intro i r hi h
    have h96 : i = 96 := by omega
    rw [h96] at h ⊢
    rw [wX_lastTime_14]; dsimp only
    exact br_t (by decide) (K r h)
  | succ m ih =>
    intro i r hi h
    have hge : ¬ (96 : Int32) ≤ nI i := nI_ge (b := 96) (by omega) (by decide)
    have cl : (nI i).toNatClampNeg = i := nI_clamp (by omega)
    have vi : vp_in (nI i) 96 := vp_in_nI (by omega) (by decide)
    rw [wX_lastTime_14]; dsimp only; rw [cl]
    refine br_f hge ⟨vi, ?_⟩
    by_cases hu : us i = 0
    · exact br_t hu (nm_r (nI_1 i) (ih (i + 1) r (by omega) (tw_ms_s h (fun z => absurd hu z))))
    refine br_f hu ⟨vi, ?_⟩
    by_cases ht : tm i ≤ r
    · exact br_t ht (nm_r (nI_1 i) (ih (i + 1) r (by omega) (tw_ms_s h (fun _ _ => Int32.le_iff_toInt_le.mp ht))))
    · refine br_f ht ⟨vi, nm_e (nm_r (nI_1 i) (ih (i + 1) _ (by omega) (tw_ms_n h hu (hT i (by omega) hu) ?_)))⟩
      rw [Int32.le_iff_toInt_le] at ht
      omega
def tw_ps (f : Nat → Nat) : Nat → Nat
  | 0 => 0
  | n + 1 => tw_ps f n + f n
theorem tw_events_l {post : Int32 → SX → Prop} {f : Nat → Nat} (h : ∀ p, p < 4 → fc p + nI (tw_cn (tw_qc us pr tm (nI p) 200) 96) = nI (f p)) (K : post (nI (tw_ps f 4)) (fi, fl, fo, fr, tg, dl, mk, us, tm, pr, va, li, dn, be, se, no, fs, fc, rc)) :
    ∀ (m i : Nat) (r : Int32), i + m = 4 → r = nI (tw_ps f i) → wX_events_11 post fi fl fo fr tg dl mk us tm pr va li dn be se no fs fc rc (m + 1) r (nI i) := by
  intro m
  induction m with
  | zero =>
    intro i r hi hr
    have h4 : i = 4 := by omega
    rw [hr, h4, wX_events_11]; dsimp only
    exact br_t (by decide) K
  | succ m ih =>
    intro i r hi hr
    have hge : ¬ (4 : Int32) ≤ nI i := nI_ge (b := 4) (by omega) (by decide)
    have cl : (nI i).toNatClampNeg = i := nI_clamp (by omega)
    rw [wX_events_11]; dsimp only; rw [cl]
    refine br_f hge ⟨vp_in_nI (by omega) (by decide), ?_⟩
    refine tw_countUpTo ?_
    rw [h i (by omega), hr, nI_add]
    exact nm_e (nm_r (nI_1 i) (ih (i + 1) _ (by omega) rfl))
theorem tw_commit83 {post : Int32 → SX → Prop} {x1 x2 : Int32} {us0 : Nat → Int32} {fo0 : Int32}
    (K : ∀ (fo' : Int32) (us' : Nat → Int32), (∀ j, j < 96 → us' j = if us0 j ≠ 0 ∧ (tm j).toInt ≤ x1.toInt then 0 else us0 j) → tw_ms us0 tm x1.toInt fo0 96 fo' → post x2 (fi, x1, fo', fr, tg, dl, mk, us', tm, pr, va, li, dn, be, se, no, fs, fc, rc)) :
    ∀ (m i : Nat) (fo : Int32) (us : Nat → Int32), i + m = 96 → (∀ j, j < i → us j = if us0 j ≠ 0 ∧ (tm j).toInt ≤ x1.toInt then 0 else us0 j) → (∀ j, i ≤ j → us j = us0 j) → tw_ms us0 tm x1.toInt fo0 i fo →
      wX_commit_83 post x1 x2 fi fl fr (m + 1) (nI i) fo tg dl mk us tm pr va li dn be se no fs fc rc := by
  intro m
  induction m with
  | zero =>
    intro i fo us hi h1 h2 h3
    have h96 : i = 96 := by omega
    rw [h96] at h1 h3 ⊢
    rw [wX_commit_83]; dsimp only
    exact br_t (by decide) (K fo us h1 h3)
  | succ m ih =>
    intro i fo us hi h1 h2 h3
    have hge : ¬ (96 : Int32) ≤ nI i := nI_ge (b := 96) (by omega) (by decide)
    have cl : (nI i).toNatClampNeg = i := nI_clamp (by omega)
    have vi : vp_in (nI i) 96 := vp_in_nI (by omega) (by decide)
    have ui := h2 i (Nat.le_refl i)
    have keep : ¬ (us0 i ≠ 0 ∧ (tm i).toInt ≤ x1.toInt) → ∀ j, j < i + 1 → us j = if us0 j ≠ 0 ∧ (tm j).toInt ≤ x1.toInt then 0 else us0 j := by
      intro c j hj
      by_cases z : j = i
      · rw [z, if_neg c]; exact ui
      · exact h1 j (by omega)
    have gone : us0 i ≠ 0 ∧ (tm i).toInt ≤ x1.toInt → ∀ j, j < i + 1 → upd us i 0 j = if us0 j ≠ 0 ∧ (tm j).toInt ≤ x1.toInt then 0 else us0 j := by
      intro c j hj
      by_cases z : j = i
      · rw [z, if_pos c, tw_us]
      · rw [tw_un z]; exact h1 j (by omega)
    have rest : ∀ j, i + 1 ≤ j → upd us i 0 j = us0 j := by
      intro j hj
      rw [tw_un (by omega)]
      exact h2 j (by omega)
    rw [wX_commit_83]; dsimp only; rw [cl, tw_b0]
    refine br_f hge ⟨vi, ?_⟩
    rw [ui]
    by_cases hu : us0 i = 0
    · exact br_t hu (nm_r (nI_1 i) (ih (i + 1) fo us (by omega) (keep (fun c => c.1 hu)) (fun j hj => h2 j (by omega)) (tw_ms_s h3 (fun z => absurd hu z))))
    refine br_f hu ⟨vi, ?_⟩
    by_cases ht : x1 < tm i
    · have ht' := Int32.lt_iff_toInt_lt.mp ht
      exact br_t ht (nm_r (nI_1 i) (ih (i + 1) fo us (by omega) (keep (fun c => by have := c.2; omega)) (fun j hj => h2 j (by omega)) (tw_ms_s h3 (fun _ z => by omega))))
    have ht' : (tm i).toInt ≤ x1.toInt := by rw [Int32.lt_iff_toInt_lt] at ht; omega
    refine br_f ht ⟨vi, ?_⟩
    by_cases hf : tm i ≤ fo
    · exact br_t hf ⟨vi, nm_e (nm_r (nI_1 i) (ih (i + 1) fo _ (by omega) (gone ⟨hu, ht'⟩) rest (tw_ms_s h3 (fun _ _ => Int32.le_iff_toInt_le.mp hf))))⟩
    · refine br_f hf ⟨vi, nm_e ⟨vi, nm_e (nm_r (nI_1 i) (ih (i + 1) _ _ (by omega) (gone ⟨hu, ht'⟩) rest (tw_ms_n h3 hu ht' ?_)))⟩⟩
      rw [Int32.le_iff_toInt_le] at hf
      omega
theorem tw_commit34 {post : Int32 → SX → Prop} {x1 : Int32} {f : Nat → Nat} {g : Nat → Int32} {fc0 : Nat → Int32}
    (hc : ∀ p, p < 4 → fc0 p + nI (tw_cn (tw_qc us pr tm (nI p) x1) 96) = nI (f p))
    (hs : ∀ p, p < 4 → ∀ (fs' fc' : Nat → Int32) (Q : Int32 → Prop), Q (g p) → wpX_stateAt Q (fi, fl, fo, fr, tg, dl, mk, us, tm, pr, va, li, dn, be, se, no, fs', fc', rc) (nI p) x1)
    (K : ∀ fs' fc' : Nat → Int32, (∀ p, p < 4 → fs' p = g p ∧ fc' p = nI (f p)) → ∃ n83, wX_commit_83 post x1 (nI (tw_ps f 4)) fi fl fr n83 0 fo tg dl mk us tm pr va li dn be se no fs' fc' rc) :
    ∀ (m i : Nat) (r : Int32) (fs fc : Nat → Int32), i + m = 4 → r = nI (tw_ps f i) → (∀ p, p < i → fs p = g p ∧ fc p = nI (f p)) → (∀ p, i ≤ p → fc p = fc0 p) →
      wX_commit_34 post x1 fi fl fo fr (m + 1) r (nI i) tg dl mk us tm pr va li dn be se no fs fc rc := by
  intro m
  induction m with
  | zero =>
    intro i r fs fc hi hr h1 h2
    have h4 : i = 4 := by omega
    rw [h4] at h1
    rw [hr, h4, wX_commit_34]; dsimp only
    exact br_t (by decide) (K fs fc h1)
  | succ m ih =>
    intro i r fs fc hi hr h1 h2
    have hge : ¬ (4 : Int32) ≤ nI i := nI_ge (b := 4) (by omega) (by decide)
    have cl : (nI i).toNatClampNeg = i := nI_clamp (by omega)
    have vi : vp_in (nI i) 4 := vp_in_nI (by omega) (by decide)
    rw [wX_commit_34]; dsimp only; rw [cl]
    refine br_f hge ?_
    refine hs i (by omega) fs fc _ ?_
    refine ⟨vi, nm_e ⟨vi, ?_⟩⟩
    refine tw_countUpTo ?_
    rw [h2 i (Nat.le_refl i), hc i (by omega)]
    refine ⟨vi, nm_e ⟨vi, ?_⟩⟩
    rw [tw_us, hr, nI_add]
    refine nm_e (nm_r (nI_1 i) (ih (i + 1) _ _ _ (by omega) rfl (fun p hp => ?_) (fun p hp => ?_)))
    · by_cases z : p = i
      · rw [z, tw_us, tw_us]; exact ⟨rfl, rfl⟩
      · rw [tw_un z, tw_un z]; exact h1 p (by omega)
    · rw [tw_un (by omega)]; exact h2 p (by omega)
end
end
section
/-- the two states agree: the same rules and injected events; X's engine in order, its fold as it should be -/
def tw_rel (fi fl fo fr : Int32) (tg dl mk us tm pr va li dn be se no fs fc rc : Nat → Int32) (yi yh yc yl : Int32) (yg yd ym ts ps vs ls yn st hb : Nat → Int32) : Prop :=
  ∃ (inj : List tw_Ev) (F : Nat → List tw_Ev), (yg = tg ∧ yd = dl ∧ ym = mk ∧ tw_ru tg dl mk) ∧ (fi = nI inj.length ∧ yi = fi ∧ yh = fl ∧ fr = 0) ∧ tw_base inj F fl.toInt ∧
    (∀ c ∈ inj, tw_ok c ∧ ∃ p, p < 4 ∧ c.2.1 = nI p) ∧ tw_eng tg dl mk inj F fl.toInt 96 [] (tw_ev tm pr va li) us dn be se no ∧ (List.range inj.length).map (tw_ev ts ps vs ls) = inj ∧
    (∀ p, p < 4 → fs p = tw_run 0 (F p) ∧ fc p = nI (F p).length) ∧ tw_mx F fo ∧ fl.toInt ≤ 200
def i_Rel (k : Nat) (u : SX) (v : SY) : Prop := match u with
  | (fi, fl, fo, fr, tg, dl, mk1, us, tm, pr, va, li, dn, be, se, no1, fs, fc, rc) => match v with
    | (yi, yh, yc, yl, yg, yd, ym, ts, ps, vs, ls, yn, st, hb) => tw_rel fi fl fo fr tg dl mk1 us tm pr va li dn be se no1 fs fc rc yi yh yc yl yg yd ym ts ps vs ls yn st hb
theorem i_up {k : Nat} {u : SX} {v : SY} (h : i_Rel k u v) : i_Rel (k + 5) u v := h
theorem tw_el {k : Nat} {u : SX} {v : SY} {Q : SX → SY → Prop} (h : ∀ (fi fl fo fr : Int32) (tg dl mk us tm pr va li dn be se no fs fc rc : Nat → Int32) (yi yh yc yl : Int32) (yg yd ym ts ps vs ls yn st hb : Nat → Int32), tw_rel fi fl fo fr tg dl mk us tm pr va li dn be se no fs fc rc yi yh yc yl yg yd ym ts ps vs ls yn st hb → Q (fi, fl, fo, fr, tg, dl, mk, us, tm, pr, va, li, dn, be, se, no, fs, fc, rc) (yi, yh, yc, yl, yg, yd, ym, ts, ps, vs, ls, yn, st, hb)) (I : i_Rel k u v) : Q u v := by
  obtain ⟨fi, fl, fo, fr, tg, dl, mk, us, tm, pr, va, li, dn, be, se, no, fs, fc, rc⟩ := u
  obtain ⟨yi, yh, yc, yl, yg, yd, ym, ts, ps, vs, ls, yn, st, hb⟩ := v
  exact h _ _ _ _ _ _ _ _ _ _ _ _ _ _ _ _ _ _ _ _ _ _ _ _ _ _ _ _ _ _ _ _ _ I
/-! nothing yet -/
theorem tw_s4_0 : tw_s4 (fun _ => 0) = 0 := rfl
theorem tw_CE0 {tg dl mk : Nat → Int32} {F : Nat → List tw_Ev} {E : Nat → tw_Ev} (hF : ∀ p, p < 4 → F p = []) : tw_CE tg dl mk [] (tw_hh F (fun _ => []) E) (([] : List Nat).map E) (([] : List Nat).map E) := by
  refine tw_CE_cg (H := fun _ => []) (fun p hp => ?_) (fun c => rfl)
  show F p ++ [] = []
  rw [hF p hp]; rfl
section
variable {fi fl fo fr : Int32} {tg dl mk us tm pr va li dn be se no fs fc rc : Nat → Int32} {yi yh yc yl : Int32} {yg yd ym ts ps vs ls yn st hb : Nat → Int32}
theorem tw_rel0 (hu : ∀ i, i < 96 → us i = 0) (hp : ∀ p, p < 4 → no p = 0 ∧ fs p = 0 ∧ fc p = 0) (hr : yg = tg ∧ yd = dl ∧ ym = mk ∧ tw_ru tg dl mk) (k : Nat) : i_Rel k (0, -1, -1, 0, tg, dl, mk, us, tm, pr, va, li, dn, be, se, no, fs, fc, rc) (0, -1, yc, yl, yg, yd, ym, ts, ps, vs, ls, yn, st, hb) := by
  refine ⟨[], fun _ => [], hr, ⟨rfl, rfl, rfl, rfl⟩, ⟨by decide, fun c hc => absurd hc List.not_mem_nil, fun p hp => ⟨List.Pairwise.nil, fun c hc => absurd hc List.not_mem_nil⟩⟩, fun c hc => absurd hc List.not_mem_nil, ⟨fun _ => [], [], tw_empty hu (fun p h => (hp p h).1), tw_CE0 (fun _ _ => rfl)⟩, rfl, fun p h => ⟨(hp p h).2.1, (hp p h).2.2⟩, Or.inl ⟨rfl, fun _ _ => rfl⟩, by decide⟩
theorem tw_clear43 {post : SX → Prop} (K : ∀ no' fs' fc' : Nat → Int32, (∀ p, p < 4 → no' p = 0 ∧ fs' p = 0 ∧ fc' p = 0) → post (fi, fl, fo, fr, tg, dl, mk, us, tm, pr, va, li, dn, be, se, no', fs', fc', rc)) :
    ∀ (m i : Nat) (no fs fc : Nat → Int32), i + m = 4 → (∀ p, p < i → no p = 0 ∧ fs p = 0 ∧ fc p = 0) → wX_clear_43 post fi fl fo fr (m + 1) (nI i) tg dl mk us tm pr va li dn be se no fs fc rc := by
  intro m
  induction m with
  | zero =>
    intro i no fs fc hi h
    have h4 : i = 4 := by omega
    rw [h4] at h ⊢
    rw [wX_clear_43]; dsimp only
    exact br_t (by decide) (K no fs fc h)
  | succ m ih =>
    intro i no fs fc hi h
    have hge : ¬ (4 : Int32) ≤ nI i := nI_ge (b := 4) (by omega) (by decide)
    have cl : (nI i).toNatClampNeg = i := nI_clamp (by omega)
    have vi : vp_in (nI i) 4 := vp_in_nI (by omega) (by decide)
    rw [wX_clear_43]; dsimp only; rw [cl]
    refine br_f hge ⟨vi, nm_e ⟨vi, nm_e ⟨vi, nm_e (nm_r (nI_1 i) (ih (i + 1) _ _ _ (by omega) (fun p hp => ?_)))⟩⟩⟩
    by_cases z : p = i
    · rw [z, tw_us, tw_us, tw_us]; exact ⟨rfl, rfl, rfl⟩
    · rw [tw_un z, tw_un z, tw_un z]; exact h p (by omega)
theorem tw_clear22 {post : SX → Prop} (K : ∀ us' : Nat → Int32, (∀ p, p < 96 → us' p = 0) → ∃ n43, wX_clear_43 post fi fl fo fr n43 0 tg dl mk us' tm pr va li dn be se no fs fc rc) :
    ∀ (m i : Nat) (us : Nat → Int32), i + m = 96 → (∀ p, p < i → us p = 0) → wX_clear_22 post fi fl fo fr (m + 1) (nI i) tg dl mk us tm pr va li dn be se no fs fc rc := by
  intro m
  induction m with
  | zero =>
    intro i us hi h
    have h96 : i = 96 := by omega
    rw [h96] at h ⊢
    rw [wX_clear_22]; dsimp only
    exact br_t (by decide) (K us h)
  | succ m ih =>
    intro i us hi h
    have hge : ¬ (96 : Int32) ≤ nI i := nI_ge (b := 96) (by omega) (by decide)
    have cl : (nI i).toNatClampNeg = i := nI_clamp (by omega)
    have vi : vp_in (nI i) 96 := vp_in_nI (by omega) (by decide)
    rw [wX_clear_22]; dsimp only; rw [cl, tw_b0]
    refine br_f hge ⟨vi, nm_e (nm_r (nI_1 i) (ih (i + 1) _ (by omega) (fun p hp => ?_)))⟩
    by_cases z : p = i
    · rw [z, tw_us]
    · rw [tw_un z]; exact h p (by omega)
theorem tw_clear {post : SX → Prop} (K : ∀ us' no' fs' fc' : Nat → Int32, (∀ i, i < 96 → us' i = 0) → (∀ p, p < 4 → no' p = 0 ∧ fs' p = 0 ∧ fc' p = 0) → post (0, -1, -1, 0, tg, dl, mk, us', tm, pr, va, li, dn, be, se, no', fs', fc', rc)) : wpX_clear post (fi, fl, fo, fr, tg, dl, mk, us, tm, pr, va, li, dn, be, se, no, fs, fc, rc) := by
  unfold wpX_clear
  dsimp only
  exact ⟨97, tw_clear22 (fun us' hu => ⟨5, tw_clear43 (fun no' fs' fc' h => K us' no' fs' fc' hu h) 4 0 no fs fc rfl (fun p hp => absurd hp (by omega))⟩) 96 0 us rfl (fun p hp => absurd hp (by omega))⟩
theorem tw_initX {post : SX → Prop} (K : ∀ dl' mk' : Nat → Int32, (∀ p, p < 4 → dl' p = 1 ∧ mk' p = 15) → (∀ p, 4 ≤ p → dl' p = 0 ∧ mk' p = 0) → wpX_clear post (fi, fl, fo, fr, tg, dl', mk', us, tm, pr, va, li, dn, be, se, no, fs, fc, rc)) :
    ∀ (m i : Nat) (dl mk : Nat → Int32), i + m = 4 → (∀ p, p < i → dl p = 1 ∧ mk p = 15) → (∀ p, i ≤ p → dl p = 0 ∧ mk p = 0) → wX_init_120 post fi fl fo fr (m + 1) (nI i) tg dl mk us tm pr va li dn be se no fs fc rc := by
  intro m
  induction m with
  | zero =>
    intro i dl mk hi h h'
    have h4 : i = 4 := by omega
    rw [h4] at h h' ⊢
    rw [wX_init_120]; dsimp only
    exact br_t (by decide) (K dl mk h h')
  | succ m ih =>
    intro i dl mk hi h h'
    have hge : ¬ (4 : Int32) ≤ nI i := nI_ge (b := 4) (by omega) (by decide)
    have cl : (nI i).toNatClampNeg = i := nI_clamp (by omega)
    have vi : vp_in (nI i) 4 := vp_in_nI (by omega) (by decide)
    rw [wX_init_120]; dsimp only; rw [cl]
    refine br_f hge ⟨vi, nm_e ⟨vi, nm_e (nm_r (nI_1 i) (ih (i + 1) _ _ (by omega) (fun p hp => ?_) (fun p hp => ?_)))⟩⟩
    · by_cases z : p = i
      · rw [z, tw_us, tw_us]; exact ⟨rfl, rfl⟩
      · rw [tw_un z, tw_un z]; exact h p (by omega)
    · rw [tw_un (by omega), tw_un (by omega)]; exact h' p (by omega)
theorem tw_initY {post : SY → Prop} (K : ∀ yd' ym' : Nat → Int32, (∀ p, p < 4 → yd' p = 1 ∧ ym' p = 15) → (∀ p, 4 ≤ p → yd' p = 0 ∧ ym' p = 0) → post (yi, -1, yc, yl, yg, yd', ym', ts, ps, vs, ls, yn, st, hb)) :
    ∀ (m i : Nat) (yd ym : Nat → Int32), i + m = 4 → (∀ p, p < i → yd p = 1 ∧ ym p = 15) → (∀ p, i ≤ p → yd p = 0 ∧ ym p = 0) → wY_init_81 post yi yh yc yl (m + 1) (nI i) yg yd ym ts ps vs ls yn st hb := by
  intro m
  induction m with
  | zero =>
    intro i dl mk hi h h'
    have h4 : i = 4 := by omega
    rw [h4] at h h' ⊢
    rw [wY_init_81]; dsimp only
    exact br_t (by decide) (K dl mk h h')
  | succ m ih =>
    intro i dl mk hi h h'
    have hge : ¬ (4 : Int32) ≤ nI i := nI_ge (b := 4) (by omega) (by decide)
    have cl : (nI i).toNatClampNeg = i := nI_clamp (by omega)
    have vi : vp_in (nI i) 4 := vp_in_nI (by omega) (by decide)
    rw [wY_init_81]; dsimp only; rw [cl]
    refine br_f hge ⟨vi, nm_e ⟨vi, nm_e (nm_r (nI_1 i) (ih (i + 1) _ _ (by omega) (fun p hp => ?_) (fun p hp => ?_)))⟩⟩
    · by_cases z : p = i
      · rw [z, tw_us, tw_us]; exact ⟨rfl, rfl⟩
      · rw [tw_un z, tw_un z]; exact h p (by omega)
    · rw [tw_un (by omega), tw_un (by omega)]; exact h' p (by omega)
/-! the checks of arguments -/
theorem tw_bx {post : Int32 → Prop} {j : Nat} (hj : j < 4) (K : post 0) : wpX_badProcess post (nI j) := br_f (tw_r_neg (by omega)) (br_t (nI_lt (b := 4) hj (by decide)) K)
theorem tw_by {post : Int32 → Prop} {v : SY} {j : Nat} (hj : j < 4) (K : post 0) : wpY_bad post v (nI j) := br_f (tw_r_neg (by omega)) (br_t (nI_le (b := 3) (by omega) (by decide)) K)
theorem tw_p4 (x : Int32) : (∃ j, j < 4 ∧ x = nI j) ∨ ((∀ post : Int32 → Prop, post 1 → wpX_badProcess post x) ∧ ∀ (post : Int32 → Prop) (v : SY), post 1 → wpY_bad post v x) := by
  by_cases h0 : x < 0
  · exact Or.inr ⟨fun post K => br_t h0 K, fun post v K => br_t h0 K⟩
  · obtain ⟨j, hj, e⟩ := nI_of h0
    by_cases c : j < 4
    · exact Or.inl ⟨j, c, e⟩
    · subst e
      exact Or.inr ⟨fun post K => br_f h0 (br_f (nI_nlt (b := 4) (by omega) hj) K), fun post v K => br_f h0 (br_f (nI_ge (a := 3) (by omega) hj) K)⟩
end
end
section
theorem tw_and3 (y : Int32) : 0 ≤ (y &&& 3).toInt ∧ (y &&& 3).toInt < 4 := by
  have h : (y &&& 3).toBitVec.toNat < 4 := by
    rw [Int32.toBitVec_and, BitVec.toNat_and]
    exact Nat.lt_of_le_of_lt Nat.and_le_right (by decide)
  have e : (y &&& 3).toInt = (y &&& 3).toBitVec.toInt := rfl
  rw [e, BitVec.toInt_eq_toNat_of_lt (by omega)]
  omega
theorem tw_none {tg dl mk : Nat → Int32} {F : Nat → List tw_Ev} {ln : Int} {D : Nat → List Nat} {P : List Nat} {E : Nat → tw_Ev} {us dn be se no : Nat → Int32}
    (R : tw_ru tg dl mk) (B : tw_base [] F ln) (I : tw_iv tg dl mk F ln 96 D P [] E us dn be se no) (C : tw_CE tg dl mk [] (tw_hh F D E) (P.map E) []) :
    (∀ i, i < 96 → us i = 0) ∧ ∀ p, p < 4 → F p = [] ∧ no p = 0 := by
  have bd := tw_bound R C (fun p hp c hc => (tw_hok B I p hp c hc).1)
  have w0 : tw_w [] = 0 := rfl
  have wl := tw_w_len (P.map E)
  rw [List.length_map] at wl
  have hP : P = [] := List.eq_nil_of_length_eq_zero (by omega)
  have hH : ∀ p, p < 4 → tw_hh F D E p = [] := by
    intro p hp
    apply List.eq_nil_of_length_eq_zero
    simp only [tw_s4] at bd
    rcases tw_lt4 hp with z | z | z | z <;> rw [z] <;> omega
  have hD : ∀ p, p < 4 → F p = [] ∧ D p = [] := by
    intro p hp
    have h : F p ++ (D p).map E = [] := hH p hp
    have h' := List.append_eq_nil_iff.mp h
    exact ⟨h'.1, List.map_eq_nil_iff.mp h'.2⟩
  refine ⟨fun i hi => ?_, fun p hp => ⟨(hD p hp).1, ?_⟩⟩
  · by_cases hu : us i = 0
    · exact hu
    · exfalso
      by_cases hd : dn i = 0
      · have := (I.1.2.1 i).mpr ⟨hi, hu, hd⟩
        rw [hP] at this; exact absurd this List.not_mem_nil
      · obtain ⟨p, hp, hpe⟩ := (I.2.1 i hi hu).2.2
        have := (I.1.2.2 p hp i).mpr ⟨hi, hu, hd, hpe⟩
        rw [(hD p hp).2] at this; exact absurd this List.not_mem_nil
  · have d := I.2.2.2.1 p hp
    rw [(hD p hp).1, (hD p hp).2] at d
    exact d
theorem i_vc0 : wpX_init (fun u => wpY_init (fun v => i_Rel 0 u v)) := by
  refine ⟨5, tw_initX (fun dl' mk' h h' => tw_clear (fun us' no' fs' fc' hu hp => ⟨5, tw_initY (fun yd' ym' g g' => ?_) 4 0 _ _ rfl (fun p hp => absurd hp (by omega)) (fun _ _ => ⟨rfl, rfl⟩)⟩)) 4 0 _ _ rfl (fun p hp => absurd hp (by omega)) (fun _ _ => ⟨rfl, rfl⟩)⟩
  have e1 : yd' = dl' := by
    funext p
    by_cases c : p < 4
    · rw [(g p c).1, (h p c).1]
    · rw [(g' p (by omega)).1, (h' p (by omega)).1]
  have e2 : ym' = mk' := by
    funext p
    by_cases c : p < 4
    · rw [(g p c).2, (h p c).2]
    · rw [(g' p (by omega)).2, (h' p (by omega)).2]
  refine tw_rel0 hu hp ⟨rfl, e1, e2, fun p hp => ⟨⟨0, by decide, rfl⟩, ?_⟩⟩ 0
  rw [(h p hp).1]
  decide
theorem i_vc_rule {k : Nat} {u : SX} {v : SY} (I : i_Rel k u v) (hk : k + 5 ≤ 2560) (v1 : Int32) (v2 : Int32) (v3 : Int32) (v4 : Int32) : wpX_rule (fun r u' => wpY_rule (fun r' v' => r' = r ∧ i_Rel (k + 5) u' v') v v1 v2 v3 v4) u v1 v2 v3 v4 := by
  refine tw_el (Q := fun u v => wpX_rule (fun r u' => wpY_rule (fun r' v' => r' = r ∧ i_Rel (k + 5) u' v') v v1 v2 v3 v4) u v1 v2 v3 v4) ?_ I
  intro fi fl fo fr tg dl mk us tm pr va li dn be se no fs fc rc yi yh yc yl yg yd ym ts ps vs ls yn st hb rel
  unfold wpX_rule wpY_rule
  dsimp only
  rcases tw_p4 v1 with ⟨p, hp, rfl⟩ | ⟨bx, by'⟩
  rotate_left
  · exact bx _ (br_f (by decide) (by' _ _ (br_f (by decide) ⟨rfl, rel⟩)))
  rcases tw_p4 v2 with ⟨q, hq, rfl⟩ | ⟨bx, by'⟩
  rotate_left
  · exact tw_bx hp (br_t rfl (bx _ (br_f (by decide) (tw_by hp (br_t rfl (by' _ _ (br_f (by decide) ⟨rfl, rel⟩)))))))
  refine tw_bx hp (br_t rfl (tw_bx hq (br_t rfl ?_)))
  by_cases h1 : v3 < 1
  · exact br_t h1 (tw_by hp (br_t rfl (tw_by hq (br_t rfl (br_t h1 ⟨rfl, rel⟩)))))
  by_cases h2 : 9 < v3
  · exact br_f h1 (br_t h2 (tw_by hp (br_t rfl (tw_by hq (br_t rfl (br_f h1 (br_t h2 ⟨rfl, rel⟩)))))))
  by_cases h3 : v4 < 0
  · exact br_f h1 (br_f h2 (br_t h3 (tw_by hp (br_t rfl (tw_by hq (br_t rfl (br_f h1 (br_f h2 (br_t h3 ⟨rfl, rel⟩)))))))))
  by_cases h4 : v4 ≤ 15
  rotate_left
  · exact br_f h1 (br_f h2 (br_f h3 (br_f h4 (tw_by hp (br_t rfl (tw_by hq (br_t rfl (br_f h1 (br_f h2 (br_f h3 (br_f h4 ⟨rfl, rel⟩)))))))))))
  refine br_f h1 (br_f h2 (br_f h3 (br_t h4 ?_)))
  have rel' := rel
  obtain ⟨inj, F, ⟨rfl, rfl, rfl, R⟩, ⟨efi, rfl, rfl, rfl⟩, B, ho, ⟨D, P, I', C⟩, hE, hf, hm⟩ := rel'
  by_cases h5 : yi ≤ 0
  rotate_left
  · exact br_f h5 (tw_by hp (br_t rfl (tw_by hq (br_t rfl (br_f h1 (br_f h2 (br_f h3 (br_t h4 (br_f h5 ⟨rfl, rel⟩)))))))))
  have cp : (nI p).toNatClampNeg = p := nI_clamp (by omega)
  have vp : vp_in (nI p) 4 := vp_in_nI hp (by decide)
  rw [cp]
  refine br_t h5 ⟨vp, nm_e ⟨vp, nm_e ⟨vp, nm_e ?_⟩⟩⟩
  refine tw_by hp (br_t rfl (tw_by hq (br_t rfl (br_f h1 (br_f h2 (br_f h3 (br_t h4 (br_t h5 ⟨vp, nm_e ⟨vp, nm_e ⟨vp, nm_e ?_⟩⟩⟩))))))))
  refine ⟨rfl, ?_⟩
  have l0 : inj = [] := by
    apply List.eq_nil_of_length_eq_zero
    have b := B.1
    rw [efi] at h5
    exact Nat.le_zero.mp ((nI_leI (b := 0) (by omega) (by decide)).mp h5)
  subst l0
  obtain ⟨hu, hn⟩ := tw_none R B I' C
  have R' : tw_ru (upd yg p (nI q)) (upd yd p v3) (upd ym p v4) := by
    intro r hr
    by_cases c : r = p
    · rw [c, tw_us, tw_us]
      refine ⟨⟨q, hq, rfl⟩, ?_⟩
      rw [Int32.lt_iff_toInt_lt] at h1 h2
      have z1 : (1 : Int32).toInt = 1 := by decide
      have z9 : (9 : Int32).toInt = 9 := by decide
      omega
    · rw [tw_un c, tw_un c]
      exact R r hr
  exact ⟨[], F, ⟨rfl, rfl, rfl, R'⟩, ⟨efi, rfl, rfl, rfl⟩, B, ho, ⟨fun _ => [], [], tw_empty hu (fun r hr => by rw [(hn r hr).1, (hn r hr).2]; rfl), tw_CE0 (fun r hr => (hn r hr).1)⟩, hE, hf, hm⟩
theorem i_vc_clear {k : Nat} {u : SX} {v : SY} (I : i_Rel k u v) (hk : k + 5 ≤ 2560) : wpX_clear (fun u' => wpY_clear (fun v' => i_Rel (k + 5) u' v') v) u := by
  refine tw_el (Q := fun u v => wpX_clear (fun u' => wpY_clear (fun v' => i_Rel (k + 5) u' v') v) u) ?_ I
  intro fi fl fo fr tg dl mk us tm pr va li dn be se no fs fc rc yi yh yc yl yg yd ym ts ps vs ls yn st hb rel
  obtain ⟨inj, F, hr, _⟩ := rel
  refine tw_clear (fun us' no' fs' fc' hu hp => ?_)
  unfold wpY_clear
  dsimp only
  exact tw_rel0 hu hp hr (k + 5)
theorem i_vc_horizon {k : Nat} {u : SX} {v : SY} (I : i_Rel k u v) (hk : k + 5 ≤ 2560) : wpX_horizon (fun r => wpY_horizon (fun r' => r' = r ∧ i_Rel (k + 5) u v) v) u := by
  refine tw_el (Q := fun u v => wpX_horizon (fun r => wpY_horizon (fun r' => r' = r ∧ i_Rel (k + 5) u v) v) u) ?_ I
  intro fi fl fo fr tg dl mk us tm pr va li dn be se no fs fc rc yi yh yc yl yg yd ym ts ps vs ls yn st hb rel
  have rel' := rel
  obtain ⟨inj, F, _, ⟨_, _, e, _⟩, _⟩ := rel'
  exact ⟨e, rel⟩
theorem i_vc_work {k : Nat} {u : SX} {v : SY} (I : i_Rel k u v) (hk : k + 5 ≤ 2560) (v1 : Int32) (v2 : Int32) : wpX_work (fun r u' => wpY_work (fun r' => r' = r ∧ i_Rel (k + 5) u' v) v v1 v2) u v1 v2 := by
  refine tw_el (Q := fun u v => wpX_work (fun r u' => wpY_work (fun r' => r' = r ∧ i_Rel (k + 5) u' v) v v1 v2) u v1 v2) ?_ I
  intro fi fl fo fr tg dl mk us tm pr va li dn be se no fs fc rc yi yh yc yl yg yd ym ts ps vs ls yn st hb rel
  unfold wpX_work wpY_work
  dsimp only
  rcases tw_p4 v1 with ⟨p, hp, rfl⟩ | ⟨bx, by'⟩
  rotate_left
  · exact bx _ (br_f (by decide) (by' _ _ (br_f (by decide) ⟨rfl, rel⟩)))
  refine tw_bx hp (br_t rfl ⟨97, ?_⟩)
  obtain ⟨inj, F, hr, ⟨e1, e2, e3, rfl⟩, B, ho, G, rest⟩ := rel
  refine tw_work_l hr.2.2.2 B hp (fun us' tm' pr' va' li' dn' be' se' no' rc' G' => ?_) 96 0 us tm pr va li dn be se no rc rfl G
  exact tw_by hp (br_t rfl ⟨rfl, inj, F, hr, ⟨e1, e2, e3, rfl⟩, B, ho, G', rest⟩)
theorem i_vc_inject {k : Nat} {u : SX} {v : SY} (I : i_Rel k u v) (hk : k + 5 ≤ 2560) (v1 : Int32) (v2 : Int32) (v3 : Int32) : wpX_inject (fun r u' => wpY_inject (fun r' v' => r' = r ∧ i_Rel (k + 5) u' v') v v1 v2 v3) u v1 v2 v3 := by
  refine tw_el (Q := fun u v => wpX_inject (fun r u' => wpY_inject (fun r' v' => r' = r ∧ i_Rel (k + 5) u' v') v v1 v2 v3) u v1 v2 v3) ?_ I
  intro fi fl fo fr tg dl mk us tm pr va li dn be se no fs fc rc yi yh yc yl yg yd ym ts ps vs ls yn st hb rel
  unfold wpX_inject wpY_inject
  dsimp only
  rcases tw_p4 v1 with ⟨p, hp, rfl⟩ | ⟨bx, by'⟩
  rotate_left
  · exact bx _ (br_f (by decide) (by' _ _ (br_f (by decide) ⟨rfl, rel⟩)))
  refine tw_bx hp (br_t rfl ?_)
  by_cases h1 : v2 < 0
  · exact br_t h1 (tw_by hp (br_t rfl (br_t h1 ⟨rfl, rel⟩)))
  by_cases h2 : v2 ≤ 99
  rotate_left
  · exact br_f h1 (br_f h2 (tw_by hp (br_t rfl (br_f h1 (br_f h2 ⟨rfl, rel⟩)))))
  refine br_f h1 (br_t h2 ?_)
  have rel' := rel
  obtain ⟨inj, F, ⟨rfl, rfl, rfl, R⟩, ⟨efi, rfl, rfl, rfl⟩, B, ho, ⟨D, P, I', C⟩, hE, hf, hm⟩ := rel'
  by_cases h3 : yh < v2
  rotate_left
  · exact br_f h3 (tw_by hp (br_t rfl (br_f h1 (br_t h2 (br_f h3 ⟨rfl, rel⟩)))))
  subst efi
  have b24 := B.1
  by_cases h4 : inj.length < 24
  rotate_left
  · have l24 : inj.length = 24 := by omega
    refine br_t h3 (br_f (nI_nlt (b := 24) (by omega) (by omega)) (tw_by hp (br_t rfl (br_f h1 (br_t h2 (br_t h3 (br_t (by rw [l24]; rfl) ⟨rfl, rel⟩)))))))
  refine br_t h3 (br_t (nI_lt (b := 24) h4 (by decide)) (nm_r (nI_1 inj.length) ?_))
  refine tw_newEvent (tw_room R B I' C (Or.inl h4)) (fun e he hu => ?_)
  dsimp only
  have la := tw_and3 (v3 >>> ((4 : Int32) &&& 31))
  generalize v3 &&& 15 = x3
  generalize (v3 >>> ((4 : Int32) &&& 31)) &&& 3 = x4 at la ⊢
  have t0 : 0 ≤ v2.toInt ∧ v2.toInt ≤ 99 := by
    rw [Int32.lt_iff_toInt_lt] at h1
    rw [Int32.le_iff_toInt_le] at h2
    have z0 : (0 : Int32).toInt = 0 := by decide
    have z9 : (99 : Int32).toInt = 99 := by decide
    omega
  have tl : yh.toInt < v2.toInt := Int32.lt_iff_toInt_lt.mp h3
  have okc : tw_ok (v2, nI p, x3, x4) := by
    unfold tw_ok tw_t tw_l
    dsimp only
    omega
  have Ek : tw_ev (upd tm e v2) (upd pr e (nI p)) (upd va e x3) (upd li e x4) e = (v2, nI p, x3, x4) := tw_ev_s
  have En : ∀ i, i ≠ e → tw_ev (upd tm e v2) (upd pr e (nI p)) (upd va e x3) (upd li e x4) i = tw_ev tm pr va li i := fun i h => tw_ev_n h
  have I1 := tw_new (E' := tw_ev (upd tm e v2) (upd pr e (nI p)) (upd va e x3) (upd li e x4)) I' he hu En (by rw [Ek]; exact okc) (by rw [Ek]; exact tl) (by rw [Ek]; exact ⟨p, hp, rfl⟩)
  have C1 := tw_inj_c (tw_new_c (E' := tw_ev (upd tm e v2) (upd pr e (nI p)) (upd va e x3) (upd li e x4)) I'.1 hu En C)
  rw [Ek] at C1
  refine tw_arrive R he (by rw [tw_us]; decide) ⟨D, e :: P, I1, C1⟩ rfl (fun us' dn' se' no' rc' G3 _ => ?_)
  dsimp only
  refine tw_by hp (br_t rfl (br_f h1 (br_t h2 (br_t h3 (br_f (fun z => ?_) ?_)))))
  · exact absurd ((nI_eq (b := 24) (by omega) (by decide)).mp z) (by omega)
  refine tw_put (n := inj.length) (by omega) rfl ?_
  dsimp only
  refine nm_r (nI_1 inj.length) ⟨rfl, inj ++ [(v2, nI p, x3, x4)], F, ⟨rfl, rfl, rfl, R⟩, ⟨?_, rfl, rfl, rfl⟩, ⟨?_, ?_, B.2.2⟩, ?_, G3, ?_, hf, hm⟩
  · rw [List.length_append]; rfl
  · rw [List.length_append]
    show inj.length + 1 ≤ 24
    omega
  · intro c hc
    rcases List.mem_append.mp hc with w | w
    · exact B.2.1 c w
    · rw [List.mem_singleton.mp w]
      show x4.toInt ≤ 3
      omega
  · intro c hc
    rcases List.mem_append.mp hc with w | w
    · exact ho c w
    · rw [List.mem_singleton.mp w]
      exact ⟨okc, p, hp, rfl⟩
  · have ll : (inj ++ [(v2, nI p, x3, x4)]).length = inj.length + 1 := by rw [List.length_append]; rfl
    rw [ll, List.range_succ, List.map_append]
    congr 1
    · rw [← hE, List.length_map, List.length_range]
      apply List.map_congr_left
      intro i hi
      exact tw_ev_n (by have := List.mem_range.mp hi; omega)
    · show [tw_ev (upd ts inj.length v2) (upd ps inj.length (nI p)) (upd vs inj.length x3) (upd ls inj.length x4) inj.length] = _
      rw [tw_ev_s]
end
section
section
variable {yi yh yc yl : Int32} {yg yd ym ts ps vs ls yn st hb : Nat → Int32}
variable {inj : List tw_Ev}
theorem tw_Ystate {Q : Int32 → SY → Prop} {p : Nat} {x : Int32} (R : tw_ru yg yd ym) (h24 : inj.length ≤ 24 ∧ ∀ c ∈ inj, tw_l c ≤ 3) (ho : ∀ c ∈ inj, tw_ok c ∧ ∃ p, p < 4 ∧ c.2.1 = nI p) (hi : yi = nI inj.length) (hE : (List.range inj.length).map (tw_ev ts ps vs ls) = inj)
    (hp : p < 4) (h1 : ¬ x < yh) (h2 : x ≤ 200)
    (K : ∀ (H : Nat → List tw_Ev) (yc' yl' : Int32) (ts' ps' vs' ls' yn' st' hb' : Nat → Int32), tw_cl yg yd ym inj x.toInt H → (List.range inj.length).map (tw_ev ts' ps' vs' ls') = inj → Q (tw_run 0 (H p)) (yi, yh, yc', yl', yg, yd, ym, ts', ps', vs', ls', yn', st', hb')) : wpY_state Q (yi, yh, yc, yl, yg, yd, ym, ts, ps, vs, ls, yn, st, hb) (nI p) x := by
  have cp : (nI p).toNatClampNeg = p := nI_clamp (by omega)
  unfold wpY_state
  dsimp only
  rw [cp]
  refine tw_by hp (br_t rfl (br_f h1 (br_f (Int32.not_lt.mpr h2) (br_f (by decide) ?_))))
  refine tw_simulate R h24 ho hi hE (fun H yc' yl' ts' ps' vs' ls' yn' st' hb' cl hs mx hE' => ?_)
  dsimp only
  refine ⟨vp_in_nI hp (by decide), ?_⟩
  rw [(hs p hp).1]
  exact K H yc' yl' ts' ps' vs' ls' yn' st' hb' cl hE'
theorem tw_Yhandled {Q : Int32 → SY → Prop} {p : Nat} {x : Int32} (R : tw_ru yg yd ym) (h24 : inj.length ≤ 24 ∧ ∀ c ∈ inj, tw_l c ≤ 3) (ho : ∀ c ∈ inj, tw_ok c ∧ ∃ p, p < 4 ∧ c.2.1 = nI p) (hi : yi = nI inj.length) (hE : (List.range inj.length).map (tw_ev ts ps vs ls) = inj)
    (hp : p < 4) (h1 : ¬ x < yh) (h2 : x ≤ 200)
    (K : ∀ (H : Nat → List tw_Ev) (yc' yl' : Int32) (ts' ps' vs' ls' yn' st' hb' : Nat → Int32), tw_cl yg yd ym inj x.toInt H → (List.range inj.length).map (tw_ev ts' ps' vs' ls') = inj → Q (nI (H p).length) (yi, yh, yc', yl', yg, yd, ym, ts', ps', vs', ls', yn', st', hb')) : wpY_handled Q (yi, yh, yc, yl, yg, yd, ym, ts, ps, vs, ls, yn, st, hb) (nI p) x := by
  have cp : (nI p).toNatClampNeg = p := nI_clamp (by omega)
  unfold wpY_handled
  dsimp only
  rw [cp]
  refine tw_by hp (br_t rfl (br_f h1 (br_f (Int32.not_lt.mpr h2) (br_f (by decide) ?_))))
  refine tw_simulate R h24 ho hi hE (fun H yc' yl' ts' ps' vs' ls' yn' st' hb' cl hs mx hE' => ?_)
  dsimp only
  refine ⟨vp_in_nI hp (by decide), ?_⟩
  rw [(hs p hp).2]
  exact K H yc' yl' ts' ps' vs' ls' yn' st' hb' cl hE'
theorem tw_YlastTime {Q : Int32 → SY → Prop} (R : tw_ru yg yd ym) (h24 : inj.length ≤ 24 ∧ ∀ c ∈ inj, tw_l c ≤ 3) (ho : ∀ c ∈ inj, tw_ok c ∧ ∃ p, p < 4 ∧ c.2.1 = nI p) (hi : yi = nI inj.length) (hE : (List.range inj.length).map (tw_ev ts ps vs ls) = inj)
    (K : ∀ (H : Nat → List tw_Ev) (yc' yl' : Int32) (ts' ps' vs' ls' yn' st' hb' : Nat → Int32), tw_cl yg yd ym inj (200 : Int32).toInt H → tw_mx H yl' → (List.range inj.length).map (tw_ev ts' ps' vs' ls') = inj → Q yl' (yi, yh, yc', yl', yg, yd, ym, ts', ps', vs', ls', yn', st', hb')) : wpY_lastTime Q (yi, yh, yc, yl, yg, yd, ym, ts, ps, vs, ls, yn, st, hb) := by
  unfold wpY_lastTime
  dsimp only
  refine tw_simulate R h24 ho hi hE (fun H yc' yl' ts' ps' vs' ls' yn' st' hb' cl hs mx hE' => ?_)
  exact K H yc' yl' ts' ps' vs' ls' yn' st' hb' cl mx hE'
theorem tw_hb4 {H : Nat → List tw_Ev} {st' hb' : Nat → Int32} (hs : ∀ p, p < 4 → st' p = tw_run 0 (H p) ∧ hb' p = nI (H p).length) : hb' 0 + hb' 1 + hb' 2 + hb' 3 = nI (tw_ps (fun p => (H p).length) 4) := by
  rw [(hs 0 (by decide)).2, (hs 1 (by decide)).2, (hs 2 (by decide)).2, (hs 3 (by decide)).2, nI_add, nI_add, nI_add]
  simp only [tw_ps]
  rw [Nat.zero_add]
theorem tw_Yevents {Q : Int32 → SY → Prop} (R : tw_ru yg yd ym) (h24 : inj.length ≤ 24 ∧ ∀ c ∈ inj, tw_l c ≤ 3) (ho : ∀ c ∈ inj, tw_ok c ∧ ∃ p, p < 4 ∧ c.2.1 = nI p) (hi : yi = nI inj.length) (hE : (List.range inj.length).map (tw_ev ts ps vs ls) = inj)
    (K : ∀ (H : Nat → List tw_Ev) (yc' yl' : Int32) (ts' ps' vs' ls' yn' st' hb' : Nat → Int32), tw_cl yg yd ym inj (200 : Int32).toInt H → (List.range inj.length).map (tw_ev ts' ps' vs' ls') = inj → Q (nI (tw_ps (fun p => (H p).length) 4)) (yi, yh, yc', yl', yg, yd, ym, ts', ps', vs', ls', yn', st', hb')) : wpY_events Q (yi, yh, yc, yl, yg, yd, ym, ts, ps, vs, ls, yn, st, hb) := by
  unfold wpY_events
  dsimp only
  refine tw_simulate R h24 ho hi hE (fun H yc' yl' ts' ps' vs' ls' yn' st' hb' cl hs mx hE' => ?_)
  dsimp only
  unfold wpY_all
  dsimp only
  rw [tw_hb4 hs]
  exact K H yc' yl' ts' ps' vs' ls' yn' st' hb' cl hE'
theorem tw_Ycommit {Q : Int32 → SY → Prop} {x : Int32} (R : tw_ru yg yd ym) (h24 : inj.length ≤ 24 ∧ ∀ c ∈ inj, tw_l c ≤ 3) (ho : ∀ c ∈ inj, tw_ok c ∧ ∃ p, p < 4 ∧ c.2.1 = nI p) (hi : yi = nI inj.length) (hE : (List.range inj.length).map (tw_ev ts ps vs ls) = inj)
    (h0 : ¬ x < 0) (h1 : x ≤ 200) (h2 : yh ≤ x)
    (K : ∀ (H : Nat → List tw_Ev) (yc' yl' : Int32) (ts' ps' vs' ls' yn' st' hb' : Nat → Int32), tw_cl yg yd ym inj x.toInt H → (List.range inj.length).map (tw_ev ts' ps' vs' ls') = inj → Q (nI (tw_ps (fun p => (H p).length) 4)) (yi, x, yc', yl', yg, yd, ym, ts', ps', vs', ls', yn', st', hb')) : wpY_commit Q (yi, yh, yc, yl, yg, yd, ym, ts, ps, vs, ls, yn, st, hb) x := by
  unfold wpY_commit
  dsimp only
  refine br_f h0 (br_t h1 (br_t h2 ?_))
  refine tw_simulate R h24 ho hi hE (fun H yc' yl' ts' ps' vs' ls' yn' st' hb' cl hs mx hE' => ?_)
  dsimp only
  unfold wpY_all
  dsimp only
  rw [tw_hb4 hs]
  exact K H yc' yl' ts' ps' vs' ls' yn' st' hb' cl hE'
theorem tw_ps_c {f g : Nat → Nat} (h : ∀ p, p < 4 → f p = g p) : tw_ps f 4 = tw_ps g 4 := by
  simp only [tw_ps]
  rw [h 0 (by decide), h 1 (by decide), h 2 (by decide), h 3 (by decide)]
end
theorem i_vc_state {k : Nat} {u : SX} {v : SY} (I : i_Rel k u v) (hk : k + 5 ≤ 2560) (v1 : Int32) (v2 : Int32) : wpX_state (fun r u' => wpY_state (fun r' v' => r' = r ∧ i_Rel (k + 5) u' v') v v1 v2) u v1 v2 := by
  refine tw_el (Q := fun u v => wpX_state (fun r u' => wpY_state (fun r' v' => r' = r ∧ i_Rel (k + 5) u' v') v v1 v2) u v1 v2) ?_ I
  intro fi fl fo fr tg dl mk us tm pr va li dn be se no fs fc rc yi yh yc yl yg yd ym ts ps vs ls yn st hb rel
  have rel' := rel
  obtain ⟨inj, F, ⟨rfl, rfl, rfl, R⟩, ⟨efi, rfl, rfl, rfl⟩, B, ho, G, hE, hf, hm⟩ := rel'
  rcases tw_p4 v1 with ⟨p, hp, rfl⟩ | ⟨bx, by'⟩
  rotate_left
  · unfold wpX_state wpY_state
    dsimp only
    exact bx _ (br_f (by decide) (by' _ _ (br_f (by decide) ⟨rfl, rel⟩)))
  by_cases h1 : v2 < yh
  · unfold wpX_state wpY_state
    dsimp only
    exact tw_bx hp (br_t rfl (br_t h1 (br_f (by decide) (tw_by hp (br_t rfl (br_t h1 (br_t rfl ⟨rfl, rel⟩)))))))
  by_cases h2 : v2 ≤ 200
  rotate_left
  · unfold wpX_state wpY_state
    dsimp only
    exact tw_bx hp (br_t rfl (br_f h1 (br_f h2 (br_f (by decide) (tw_by hp (br_t rfl (br_f h1 (br_t (Int32.not_le.mp h2) (br_t rfl ⟨rfl, rel⟩)))))))))
  have hT : yh.toInt ≤ v2.toInt := Int32.le_iff_toInt_le.mp (Int32.not_lt.mp h1)
  have cp : (nI p).toNatClampNeg = p := nI_clamp (by omega)
  unfold wpX_state
  dsimp only
  rw [cp]
  refine tw_bx hp (br_t rfl (br_f h1 (br_t h2 (br_t rfl ?_))))
  by_cases h3 : v2 = yh
  · refine br_t h3 ⟨vp_in_nI hp (by decide), ?_⟩
    refine tw_Ystate R ⟨B.1, B.2.1⟩ ho efi hE hp h1 h2 (fun H yc' yl' ts' ps' vs' ls' yn' st' hb' cl hE' => ⟨?_, inj, F, ⟨rfl, rfl, rfl, R⟩, ⟨efi, rfl, rfl, rfl⟩, B, ho, G, hE', hf, hm⟩)
    obtain ⟨D, P, I', C⟩ := G
    have un := tw_uniq R (tw_xcl (T := v2.toInt) R B I' C hT (fun j hj hu _ => by rw [h3]; exact (I'.2.1 j hj hu).2.1)) cl p hp
    rw [← un, (hf p hp).1]
    unfold tw_AH
    have z : (D p).filter (fun i => decide (tw_t (tw_ev tm pr va li i) ≤ v2.toInt)) = [] := by
      apply List.filter_eq_nil_iff.mpr
      intro i hi
      have m := (I'.1.2.2 p hp i).mp hi
      have t := (I'.2.1 i m.1 m.2.1).2.1
      rw [decide_eq_true_eq, h3]
      omega
    rw [z, List.map_nil, List.append_nil]
  · refine br_f h3 (tw_reach R B G rfl (fun us' tm' pr' va' li' dn' be' se' no' rc' G' hP => ?_))
    dsimp only
    have G2 := G'
    obtain ⟨D, P, I', C⟩ := G'
    refine tw_xstate I' hp ?_
    refine tw_Ystate R ⟨B.1, B.2.1⟩ ho efi hE hp h1 h2 (fun H yc' yl' ts' ps' vs' ls' yn' st' hb' cl hE' => ⟨?_, inj, F, ⟨rfl, rfl, rfl, R⟩, ⟨efi, rfl, rfl, rfl⟩, B, ho, G2, hE', hf, hm⟩)
    rw [tw_uniq R (tw_xcl (T := v2.toInt) R B I' C hT hP) cl p hp]
theorem i_vc_handled {k : Nat} {u : SX} {v : SY} (I : i_Rel k u v) (hk : k + 5 ≤ 2560) (v1 : Int32) (v2 : Int32) : wpX_handled (fun r u' => wpY_handled (fun r' v' => r' = r ∧ i_Rel (k + 5) u' v') v v1 v2) u v1 v2 := by
  refine tw_el (Q := fun u v => wpX_handled (fun r u' => wpY_handled (fun r' v' => r' = r ∧ i_Rel (k + 5) u' v') v v1 v2) u v1 v2) ?_ I
  intro fi fl fo fr tg dl mk us tm pr va li dn be se no fs fc rc yi yh yc yl yg yd ym ts ps vs ls yn st hb rel
  have rel' := rel
  obtain ⟨inj, F, ⟨rfl, rfl, rfl, R⟩, ⟨efi, rfl, rfl, rfl⟩, B, ho, G, hE, hf, hm⟩ := rel'
  rcases tw_p4 v1 with ⟨p, hp, rfl⟩ | ⟨bx, by'⟩
  rotate_left
  · unfold wpX_handled wpY_handled
    dsimp only
    exact bx _ (br_f (by decide) (by' _ _ (br_f (by decide) ⟨rfl, rel⟩)))
  by_cases h1 : v2 < yh
  · unfold wpX_handled wpY_handled
    dsimp only
    exact tw_bx hp (br_t rfl (br_t h1 (br_f (by decide) (tw_by hp (br_t rfl (br_t h1 (br_t rfl ⟨rfl, rel⟩)))))))
  by_cases h2 : v2 ≤ 200
  rotate_left
  · unfold wpX_handled wpY_handled
    dsimp only
    exact tw_bx hp (br_t rfl (br_f h1 (br_f h2 (br_f (by decide) (tw_by hp (br_t rfl (br_f h1 (br_t (Int32.not_le.mp h2) (br_t rfl ⟨rfl, rel⟩)))))))))
  have hT : yh.toInt ≤ v2.toInt := Int32.le_iff_toInt_le.mp (Int32.not_lt.mp h1)
  have cp : (nI p).toNatClampNeg = p := nI_clamp (by omega)
  unfold wpX_handled
  dsimp only
  rw [cp]
  refine tw_bx hp (br_t rfl (br_f h1 (br_t h2 (br_t rfl ?_))))
  refine tw_reach R B G rfl (fun us' tm' pr' va' li' dn' be' se' no' rc' G' hP => ?_)
  dsimp only
  have G2 := G'
  obtain ⟨D, P, I', C⟩ := G'
  refine ⟨vp_in_nI hp (by decide), ?_⟩
  refine tw_countUpTo ?_
  refine tw_Yhandled R ⟨B.1, B.2.1⟩ ho efi hE hp h1 h2 (fun H yc' yl' ts' ps' vs' ls' yn' st' hb' cl hE' => ⟨?_, inj, F, ⟨rfl, rfl, rfl, R⟩, ⟨efi, rfl, rfl, rfl⟩, B, ho, G2, hE', hf, hm⟩)
  rw [(hf p hp).2, tw_xcount I' hp hP, tw_uniq R (tw_xcl (T := v2.toInt) R B I' C hT hP) cl p hp]
theorem i_vc_lastTime {k : Nat} {u : SX} {v : SY} (I : i_Rel k u v) (hk : k + 5 ≤ 2560) : wpX_lastTime (fun r u' => wpY_lastTime (fun r' v' => r' = r ∧ i_Rel (k + 5) u' v') v) u := by
  refine tw_el (Q := fun u v => wpX_lastTime (fun r u' => wpY_lastTime (fun r' v' => r' = r ∧ i_Rel (k + 5) u' v') v) u) ?_ I
  intro fi fl fo fr tg dl mk us tm pr va li dn be se no fs fc rc yi yh yc yl yg yd ym ts ps vs ls yn st hb rel
  obtain ⟨inj, F, ⟨rfl, rfl, rfl, R⟩, ⟨efi, rfl, rfl, rfl⟩, B, ho, G, hE, hf, hm⟩ := rel
  have z200 : (200 : Int32).toInt = 200 := by decide
  have hT : yh.toInt ≤ (200 : Int32).toInt := by rw [z200]; exact hm.2
  unfold wpX_lastTime
  dsimp only
  refine tw_reach R B G rfl (fun us' tm' pr' va' li' dn' be' se' no' rc' G' hP => ?_)
  dsimp only
  have G2 := G'
  obtain ⟨D, P, I', C⟩ := G'
  refine ⟨97, tw_lastTime_l (T := (200 : Int32).toInt) (fun j hj hu => ?_) (fun m ms => ?_) 96 0 fo rfl tw_ms_0⟩
  · have o := (I'.2.1 j hj hu).1
    have o1 : (tm' j).toInt + 9 * tw_l (tw_ev tm' pr' va' li' j) ≤ 126 := o.2.2
    have o2 := o.2.1
    omega
  · refine tw_YlastTime R ⟨B.1, B.2.1⟩ ho efi hE (fun H yc' yl' ts' ps' vs' ls' yn' st' hb' cl mx hE' => ⟨?_, inj, F, ⟨rfl, rfl, rfl, R⟩, ⟨efi, rfl, rfl, rfl⟩, B, ho, G2, hE', hf, hm⟩)
    have un := tw_uniq R (tw_xcl R B I' C hT hP) cl
    exact tw_mx_u (tw_mx_cg un mx) (tw_mx_x I' hP hm.1 ms)
theorem i_vc_events {k : Nat} {u : SX} {v : SY} (I : i_Rel k u v) (hk : k + 5 ≤ 2560) : wpX_events (fun r u' => wpY_events (fun r' v' => r' = r ∧ i_Rel (k + 5) u' v') v) u := by
  refine tw_el (Q := fun u v => wpX_events (fun r u' => wpY_events (fun r' v' => r' = r ∧ i_Rel (k + 5) u' v') v) u) ?_ I
  intro fi fl fo fr tg dl mk us tm pr va li dn be se no fs fc rc yi yh yc yl yg yd ym ts ps vs ls yn st hb rel
  obtain ⟨inj, F, ⟨rfl, rfl, rfl, R⟩, ⟨efi, rfl, rfl, rfl⟩, B, ho, G, hE, hf, hm⟩ := rel
  have z200 : (200 : Int32).toInt = 200 := by decide
  have hT : yh.toInt ≤ (200 : Int32).toInt := by rw [z200]; exact hm.2
  unfold wpX_events
  dsimp only
  refine tw_reach R B G rfl (fun us' tm' pr' va' li' dn' be' se' no' rc' G' hP => ?_)
  dsimp only
  have G2 := G'
  obtain ⟨D, P, I', C⟩ := G'
  refine ⟨5, tw_events_l (f := fun p => (tw_AH F D (tw_ev tm' pr' va' li') (200 : Int32).toInt p).length) (fun p hp => ?_) ?_ 4 0 0 rfl rfl⟩
  · rw [(hf p hp).2]
    exact tw_xcount I' hp hP
  · refine tw_Yevents R ⟨B.1, B.2.1⟩ ho efi hE (fun H yc' yl' ts' ps' vs' ls' yn' st' hb' cl hE' => ⟨?_, inj, F, ⟨rfl, rfl, rfl, R⟩, ⟨efi, rfl, rfl, rfl⟩, B, ho, G2, hE', hf, hm⟩)
    have un := tw_uniq R (tw_xcl R B I' C hT hP) cl
    exact congrArg nI (tw_ps_c (fun p hp => by rw [un p hp]))
theorem i_vc_commit {k : Nat} {u : SX} {v : SY} (I : i_Rel k u v) (hk : k + 5 ≤ 2560) (v1 : Int32) : wpX_commit (fun r u' => wpY_commit (fun r' v' => r' = r ∧ i_Rel (k + 5) u' v') v v1) u v1 := by
  refine tw_el (Q := fun u v => wpX_commit (fun r u' => wpY_commit (fun r' v' => r' = r ∧ i_Rel (k + 5) u' v') v v1) u v1) ?_ I
  intro fi fl fo fr tg dl mk us tm pr va li dn be se no fs fc rc yi yh yc yl yg yd ym ts ps vs ls yn st hb rel
  have rel' := rel
  obtain ⟨inj, F, ⟨rfl, rfl, rfl, R⟩, ⟨efi, rfl, rfl, rfl⟩, B, ho, G, hE, hf, hm⟩ := rel'
  by_cases h0 : v1 < 0
  · unfold wpX_commit wpY_commit
    dsimp only
    exact br_t h0 (br_t h0 ⟨rfl, rel⟩)
  by_cases h1 : v1 ≤ 200
  rotate_left
  · unfold wpX_commit wpY_commit
    dsimp only
    exact br_f h0 (br_f h1 (br_f h0 (br_f h1 ⟨rfl, rel⟩)))
  by_cases h2 : yh ≤ v1
  rotate_left
  · unfold wpX_commit wpY_commit
    dsimp only
    exact br_f h0 (br_t h1 (br_f h2 (br_f h0 (br_t h1 (br_f h2 ⟨rfl, rel⟩)))))
  have hT : yh.toInt ≤ v1.toInt := Int32.le_iff_toInt_le.mp h2
  have z200 : (200 : Int32).toInt = 200 := by decide
  have h200 : v1.toInt ≤ 200 := by rw [← z200]; exact Int32.le_iff_toInt_le.mp h1
  unfold wpX_commit
  dsimp only
  refine br_f h0 (br_t h1 (br_t h2 ?_))
  refine tw_reach R B G rfl (fun us' tm' pr' va' li' dn' be' se' no' rc' G' hP => ?_)
  dsimp only
  obtain ⟨D, P, I', C⟩ := G'
  have xcl := tw_xcl R B I' C hT hP
  refine ⟨5, tw_commit34 (f := fun p => (tw_AH F D (tw_ev tm' pr' va' li') v1.toInt p).length) (g := fun p => tw_run 0 (tw_AH F D (tw_ev tm' pr' va' li') v1.toInt p)) (fc0 := fc) (fun p hp => ?_) (fun p hp fs' fc' Q q => tw_xstate I' hp q) (fun fs' fc' hff => ⟨97, ?_⟩) 4 0 0 fs fc rfl rfl (fun p hp => absurd hp (by omega)) (fun _ _ => rfl)⟩
  · rw [(hf p hp).2]
    exact tw_xcount I' hp hP
  refine tw_commit83 (us0 := us') (fo0 := fo) (fun fo' us'' hus ms => ?_) 96 0 fo us' rfl (fun j hj => absurd hj (by omega)) (fun _ _ => rfl) tw_ms_0
  refine tw_Ycommit R ⟨B.1, B.2.1⟩ ho efi hE h0 h1 h2 (fun H yc' yl' ts' ps' vs' ls' yn' st' hb' cl hE' => ⟨?_, inj, tw_AH F D (tw_ev tm' pr' va' li') v1.toInt, ⟨rfl, rfl, rfl, R⟩, ⟨efi, rfl, rfl, rfl⟩, ⟨B.1, B.2.1, xcl.1⟩, ho, ?_, hE', hff, tw_mx_x I' hP hm.1 ms, h200⟩)
  · have un := tw_uniq R xcl cl
    exact congrArg nI (tw_ps_c (fun p hp => by rw [un p hp]))
  · have ds := tw_dsplit I' v1.toInt
    refine ⟨fun p => (D p).filter (fun i => decide (v1.toInt < tw_t (tw_ev tm' pr' va' li' i))), P, ?_, ?_⟩
    · exact tw_fold (T := v1.toInt) (A := fun p => (D p).filter (fun i => decide (tw_t (tw_ev tm' pr' va' li' i) ≤ v1.toInt))) I' hT ds (fun p hp i hi => of_decide_eq_true (List.mem_filter.mp hi).2) (fun p hp i hi => of_decide_eq_true (List.mem_filter.mp hi).2) (fun i hi => by
        have m := (I'.1.2.1 i).mp hi
        exact hP i m.1 m.2.1 m.2.2) hus R
    · exact tw_CE_cg (tw_fold_h (A := fun p => (D p).filter (fun i => decide (tw_t (tw_ev tm' pr' va' li' i) ≤ v1.toInt))) ds) C
end
