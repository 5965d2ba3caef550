section
/-! Hungarian method, pure: sums over five places, permutations, potentials -/
def hg_s5 (f : Nat → Int) : Int := f 0 + f 1 + f 2 + f 3 + f 4
theorem hg_s5_congr {f g : Nat → Int} (h : ∀ i, i < 5 → f i = g i) : hg_s5 f = hg_s5 g := by
  unfold hg_s5
  rw [h 0 (by omega), h 1 (by omega), h 2 (by omega), h 3 (by omega), h 4 (by omega)]
theorem hg_s5_le {f g : Nat → Int} (h : ∀ i, i < 5 → f i ≤ g i) : hg_s5 f ≤ hg_s5 g := by
  have h0 := h 0 (by omega)
  have h1 := h 1 (by omega)
  have h2 := h 2 (by omega)
  have h3 := h 3 (by omega)
  have h4 := h 4 (by omega)
  unfold hg_s5
  omega
theorem hg_s5_add (f g : Nat → Int) : hg_s5 (fun i => f i + g i) = hg_s5 f + hg_s5 g := by
  unfold hg_s5
  dsimp only
  omega
theorem hg_s5_swap (G : Nat → Nat → Int) : hg_s5 (fun i => hg_s5 (fun j => G i j)) = hg_s5 (fun j => hg_s5 (fun i => G i j)) := by
  unfold hg_s5
  dsimp only
  omega
theorem hg_s5_one {f : Nat → Int} {k : Nat} (hk : k < 5) (h : ∀ j, j < 5 → j ≠ k → f j = 0) : hg_s5 f = f k := by
  have z : ∀ j, j < 5 → j = k ∨ f j = 0 := by
    intro j hj
    by_cases e : j = k
    · exact Or.inl e
    · exact Or.inr (h j hj e)
  unfold hg_s5
  rcases (show k = 0 ∨ k = 1 ∨ k = 2 ∨ k = 3 ∨ k = 4 by omega) with e | e | e | e | e <;> subst e
  · rw [h 1 (by omega) (by omega), h 2 (by omega) (by omega), h 3 (by omega) (by omega), h 4 (by omega) (by omega)]; omega
  · rw [h 0 (by omega) (by omega), h 2 (by omega) (by omega), h 3 (by omega) (by omega), h 4 (by omega) (by omega)]; omega
  · rw [h 0 (by omega) (by omega), h 1 (by omega) (by omega), h 3 (by omega) (by omega), h 4 (by omega) (by omega)]; omega
  · rw [h 0 (by omega) (by omega), h 1 (by omega) (by omega), h 2 (by omega) (by omega), h 4 (by omega) (by omega)]; omega
  · rw [h 0 (by omega) (by omega), h 1 (by omega) (by omega), h 2 (by omega) (by omega), h 3 (by omega) (by omega)]; omega
theorem hg_rearr {h g : Nat → Nat} (F : Nat → Nat → Int) (hh : ∀ j, j < 5 → h j < 5) (hg : ∀ i, i < 5 → g i < 5) (h1 : ∀ j, j < 5 → g (h j) = j) (h2 : ∀ i, i < 5 → h (g i) = i) :
    hg_s5 (fun j => F (h j) j) = hg_s5 (fun i => F i (g i)) := by
  have e1 : ∀ j, j < 5 → (fun j => F (h j) j) j = (fun j => hg_s5 (fun i => if h j = i then F i j else 0)) j := by
    intro j hj
    show F (h j) j = hg_s5 (fun i => if h j = i then F i j else 0)
    have t : hg_s5 (fun i => if h j = i then F i j else 0) = (fun i => if h j = i then F i j else 0) (h j) :=
      hg_s5_one (hh j hj) (fun i _ hi => if_neg (fun e => hi e.symm))
    rw [t]
    exact (if_pos rfl).symm
  have e2 : ∀ i, i < 5 → (fun i => F i (g i)) i = (fun i => hg_s5 (fun j => if h j = i then F i j else 0)) i := by
    intro i hi
    show F i (g i) = hg_s5 (fun j => if h j = i then F i j else 0)
    have t : hg_s5 (fun j => if h j = i then F i j else 0) = (fun j => if h j = i then F i j else 0) (g i) :=
      hg_s5_one (hg i hi) (fun j hj n => if_neg (fun e => n (by rw [← e, h1 j hj])))
    rw [t]
    exact (if_pos (h2 i hi)).symm
  rw [hg_s5_congr e1, hg_s5_congr e2]
  exact hg_s5_swap (fun j i => if h j = i then F i j else 0)
def hg_pm (g : Nat → Nat) : Prop := (∀ i, i < 5 → g i < 5) ∧ (∀ i l, i < 5 → l < 5 → g i = g l → i = l)
theorem hg_pig : ∀ a b c d e : Fin 5, a ≠ b → a ≠ c → a ≠ d → a ≠ e → b ≠ c → b ≠ d → b ≠ e → c ≠ d → c ≠ e → d ≠ e → ∀ j : Fin 5, a = j ∨ b = j ∨ c = j ∨ d = j ∨ e = j := by decide +kernel
theorem hg_surj {g : Nat → Nat} (hp : hg_pm g) (j : Nat) (hj : j < 5) : ∃ i, i < 5 ∧ g i = j := by
  obtain ⟨h1, h2⟩ := hp
  have ne : ∀ x y, (hx : x < 5) → (hy : y < 5) → x ≠ y → (⟨g x, h1 x hx⟩ : Fin 5) ≠ ⟨g y, h1 y hy⟩ := fun x y hx hy n e => n (h2 x y hx hy (Fin.ext_iff.mp e))
  have l0 : 0 < 5 := by omega
  have l1 : 1 < 5 := by omega
  have l2 : 2 < 5 := by omega
  have l3 : 3 < 5 := by omega
  have l4 : 4 < 5 := by omega
  rcases hg_pig ⟨g 0, h1 0 l0⟩ ⟨g 1, h1 1 l1⟩ ⟨g 2, h1 2 l2⟩ ⟨g 3, h1 3 l3⟩ ⟨g 4, h1 4 l4⟩ (ne 0 1 l0 l1 (by omega)) (ne 0 2 l0 l2 (by omega)) (ne 0 3 l0 l3 (by omega)) (ne 0 4 l0 l4 (by omega)) (ne 1 2 l1 l2 (by omega)) (ne 1 3 l1 l3 (by omega)) (ne 1 4 l1 l4 (by omega)) (ne 2 3 l2 l3 (by omega)) (ne 2 4 l2 l4 (by omega)) (ne 3 4 l3 l4 (by omega)) ⟨j, hj⟩ with e | e | e | e | e
  · exact ⟨0, l0, Fin.ext_iff.mp e⟩
  · exact ⟨1, l1, Fin.ext_iff.mp e⟩
  · exact ⟨2, l2, Fin.ext_iff.mp e⟩
  · exact ⟨3, l3, Fin.ext_iff.mp e⟩
  · exact ⟨4, l4, Fin.ext_iff.mp e⟩
theorem hg_inv {g : Nat → Nat} (hp : hg_pm g) : ∃ h : Nat → Nat, (∀ j, j < 5 → h j < 5) ∧ (∀ j, j < 5 → g (h j) = j) ∧ (∀ i, i < 5 → h (g i) = i) := by
  have t : ∀ j, ∃ i, j < 5 → i < 5 ∧ g i = j := by
    intro j
    by_cases hj : j < 5
    · obtain ⟨i, hi, e⟩ := hg_surj hp j hj
      exact ⟨i, fun _ => ⟨hi, e⟩⟩
    · exact ⟨0, fun z => absurd z hj⟩
  obtain ⟨h, hh⟩ := Classical.axiomOfChoice t
  have hh' : ∀ j, j < 5 → h j < 5 ∧ g (h j) = j := hh
  refine ⟨h, fun j hj => (hh' j hj).1, fun j hj => (hh' j hj).2, fun i hi => ?_⟩
  have a := hh' (g i) (hp.1 i hi)
  exact hp.2 _ _ a.1 hi a.2
theorem hg_dual {c : Nat → Nat → Int} {U V : Nat → Int} {g : Nat → Nat} (hp : hg_pm g) (h : ∀ i j, i < 5 → j < 5 → U i + V j ≤ c i j) : hg_s5 U + hg_s5 V ≤ hg_s5 (fun i => c i (g i)) := by
  obtain ⟨f, f1, f2, f3⟩ := hg_inv hp
  have e : hg_s5 (fun j => V j) = hg_s5 (fun i => V (g i)) := hg_rearr (h := f) (g := g) (fun _ j => V j) f1 hp.1 f2 f3
  have e' : hg_s5 V = hg_s5 (fun i => V (g i)) := e
  rw [e', ← hg_s5_add]
  exact hg_s5_le (fun i hi => h i (g i) hi (hp.1 i hi))
/-- the costs, counted from 1 -/
def hg_c (C : Nat → Nat → Nat) (i j : Nat) : Int := (C (i - 1) (j - 1) : Int)
/-- potentials: feasible for the workers 1..w, tight where a task is held -/
def hg_P (c : Nat → Nat → Int) (w : Nat) (h : Nat → Nat) (U V : Nat → Int) : Prop :=
  (∀ i j, 1 ≤ i → i ≤ w → 1 ≤ j → j ≤ 5 → U i + V j ≤ c i j) ∧
  (∀ j, 1 ≤ j → j ≤ 5 → h j ≠ 0 → U (h j) + V j = c (h j) j) ∧
  (∀ i, 1 ≤ i → i ≤ 5 → 0 ≤ U i) ∧
  (∀ i, w < i → i ≤ 5 → U i = 0) ∧
  (∀ j, 1 ≤ j → j ≤ 5 → V j ≤ 0) ∧
  (∀ j, 1 ≤ j → j ≤ 5 → h j = 0 → V j = 0)
/-- k workers are in -/
def hg_M (c : Nat → Nat → Int) (k : Nat) (h : Nat → Nat) (U V : Nat → Int) : Prop :=
  (∀ j, 1 ≤ j → j ≤ 5 → h j ≤ k) ∧
  (∀ i, 1 ≤ i → i ≤ k → ∃ j, 1 ≤ j ∧ j ≤ 5 ∧ h j = i) ∧
  (∀ j l, 1 ≤ j → j ≤ 5 → 1 ≤ l → l ≤ 5 → h j = h l → h j ≠ 0 → j = l) ∧
  hg_P c k h U V
theorem hg_free {h : Nat → Nat} (h1 : ∀ j, 1 ≤ j → j ≤ 5 → h j < 5) (h2 : ∀ j l, 1 ≤ j → j ≤ 5 → 1 ≤ l → l ≤ 5 → h j = h l → h j ≠ 0 → j = l) : ∃ z, 1 ≤ z ∧ z ≤ 5 ∧ h z = 0 := by
  apply Classical.byContradiction
  intro hn
  have nz : ∀ j, 1 ≤ j → j ≤ 5 → h j ≠ 0 := fun j a b e => hn ⟨j, a, b, e⟩
  have pm : hg_pm (fun i => h (i + 1) - 1) := by
    refine ⟨fun i hi => ?_, fun i l hi hl e => ?_⟩
    · have t := h1 (i + 1) (by omega) (by omega)
      show h (i + 1) - 1 < 5
      omega
    · have e' : h (i + 1) - 1 = h (l + 1) - 1 := e
      have a1 := nz (i + 1) (by omega) (by omega)
      have a2 := nz (l + 1) (by omega) (by omega)
      have t := h2 (i + 1) (l + 1) (by omega) (by omega) (by omega) (by omega) (by omega) a1
      omega
  obtain ⟨i, hi, e⟩ := hg_surj pm 4 (by omega)
  have e' : h (i + 1) - 1 = 4 := e
  have t := h1 (i + 1) (by omega) (by omega)
  omega
theorem hg_fin {C : Nat → Nat → Nat} {h : Nat → Nat} {U V : Nat → Int} (m : hg_M (hg_c C) 5 h U V) :
    (∀ j, j < 5 → 1 ≤ h (j + 1)) ∧ ∃ g, hg_pm g ∧ hg_s5 (fun j => (C (h (j + 1) - 1) j : Int)) = hg_s5 (fun i => (C i (g i) : Int)) ∧ ∀ g', hg_pm g' → hg_s5 (fun j => (C (h (j + 1) - 1) j : Int)) ≤ hg_s5 (fun i => (C i (g' i) : Int)) := by
  obtain ⟨m1, m2, m3, m4, m5, m6, m7, m8, m9⟩ := m
  have t : ∀ i, ∃ y, i < 5 → y < 5 ∧ h (y + 1) = i + 1 := by
    intro i
    by_cases hi : i < 5
    · obtain ⟨j, j1, j2, j3⟩ := m2 (i + 1) (by omega) (by omega)
      exact ⟨j - 1, fun _ => ⟨by omega, by rw [show j - 1 + 1 = j by omega]; exact j3⟩⟩
    · exact ⟨0, fun z => absurd z hi⟩
  obtain ⟨g, hg0⟩ := Classical.axiomOfChoice t
  have hg : ∀ i, i < 5 → g i < 5 ∧ h (g i + 1) = i + 1 := hg0
  have pm : hg_pm g := ⟨fun i hi => (hg i hi).1, fun i l hi hl e => by
    have a := (hg i hi).2
    have b := (hg l hl).2
    rw [e] at a
    omega⟩
  have back : ∀ j, j < 5 → h (j + 1) - 1 < 5 ∧ g (h (j + 1) - 1) = j ∧ 1 ≤ h (j + 1) := by
    intro j hj
    obtain ⟨i, hi, e⟩ := hg_surj pm j hj
    have a := (hg i hi).2
    rw [e] at a
    rw [a]
    exact ⟨by omega, e, by omega⟩
  have fw : ∀ i, i < 5 → h (g i + 1) - 1 = i := by
    intro i hi
    rw [(hg i hi).2]
    omega
  refine ⟨fun j hj => (back j hj).2.2, g, pm, hg_rearr (h := fun j => h (j + 1) - 1) (g := g) (fun i j => (C i j : Int)) (fun j hj => (back j hj).1) pm.1 (fun j hj => (back j hj).2.1) fw, fun g' hg' => ?_⟩
  have v1 : hg_s5 (fun j => (C (h (j + 1) - 1) j : Int)) = hg_s5 (fun j => (fun j => U (h (j + 1))) j + (fun j => V (j + 1)) j) := by
    refine hg_s5_congr (fun j hj => ?_)
    have a := m5 (j + 1) (by omega) (by omega) (by have b := (back j hj).2.2; omega)
    have a' : U (h (j + 1)) + V (j + 1) = (C (h (j + 1) - 1) (j + 1 - 1) : Int) := a
    rw [Nat.add_sub_cancel] at a'
    exact a'.symm
  have v2 : hg_s5 (fun j => (fun i _ => U (i + 1)) (h (j + 1) - 1) j) = hg_s5 (fun i => (fun i _ => U (i + 1)) i (g i)) :=
    hg_rearr (h := fun j => h (j + 1) - 1) (g := g) (fun i _ => U (i + 1)) (fun j hj => (back j hj).1) pm.1 (fun j hj => (back j hj).2.1) fw
  have v3 : hg_s5 (fun j => U (h (j + 1))) = hg_s5 (fun j => (fun i _ => U (i + 1)) (h (j + 1) - 1) j) := by
    refine hg_s5_congr (fun j hj => ?_)
    show U (h (j + 1)) = U (h (j + 1) - 1 + 1)
    rw [show h (j + 1) - 1 + 1 = h (j + 1) by have b := (back j hj).2.2; omega]
  have v4 : hg_s5 (fun j => U (h (j + 1))) = hg_s5 (fun i => U (i + 1)) := v3.trans v2
  rw [v1, hg_s5_add, v4]
  refine hg_dual (c := fun i j => (C i j : Int)) (U := fun i => U (i + 1)) (V := fun j => V (j + 1)) hg' (fun i j hi hj => ?_)
  exact m4 (i + 1) (j + 1) (by omega) (by omega) (by omega) (by omega)
/-- what holds of the holders while worker w is brought in: w stands at task 0 -/
def hg_H (w : Nat) (h : Nat → Nat) : Prop :=
  1 ≤ w ∧ w ≤ 5 ∧ h 0 = w ∧ (∀ j, 1 ≤ j → j ≤ 5 → h j < w) ∧ (∀ j l, j ≤ 5 → l ≤ 5 → h j = h l → h j ≠ 0 → j = l) ∧ (∀ i, 1 ≤ i → i ≤ w → ∃ j, j ≤ 5 ∧ h j = i)
def hg_sg (x : Int32) : Nat := if x = 0 then 0 else 1
theorem hg_sg_0 : hg_sg 0 = 0 := rfl
theorem hg_sg_1 : hg_sg 1 = 1 := by decide
theorem hg_sg_le (x : Int32) : hg_sg x ≤ 1 := by
  unfold hg_sg
  by_cases h : x = 0
  · rw [if_pos h]; omega
  · rw [if_neg h]; omega
def hg_cnt (a : Nat → Int32) : Nat := hg_sg (a 0) + hg_sg (a 1) + hg_sg (a 2) + hg_sg (a 3) + hg_sg (a 4) + hg_sg (a 5)
theorem hg_cnt_up {a : Nat → Int32} {q : Nat} (hq : q ≤ 5) (h0 : a q = 0) : hg_cnt (upd a q 1) = hg_cnt a + 1 := by
  have e : ∀ j, j ≠ q → upd a q 1 j = a j := fun j hj => pk_un hj
  have e1 : upd a q 1 q = 1 := pk_us
  unfold hg_cnt
  rcases (show q = 0 ∨ q = 1 ∨ q = 2 ∨ q = 3 ∨ q = 4 ∨ q = 5 by omega) with z | z | z | z | z | z <;> subst z
  · rw [e1, e 1 (by omega), e 2 (by omega), e 3 (by omega), e 4 (by omega), e 5 (by omega), h0, hg_sg_0, hg_sg_1]; omega
  · rw [e1, e 0 (by omega), e 2 (by omega), e 3 (by omega), e 4 (by omega), e 5 (by omega), h0, hg_sg_0, hg_sg_1]; omega
  · rw [e1, e 0 (by omega), e 1 (by omega), e 3 (by omega), e 4 (by omega), e 5 (by omega), h0, hg_sg_0, hg_sg_1]; omega
  · rw [e1, e 0 (by omega), e 1 (by omega), e 2 (by omega), e 4 (by omega), e 5 (by omega), h0, hg_sg_0, hg_sg_1]; omega
  · rw [e1, e 0 (by omega), e 1 (by omega), e 2 (by omega), e 3 (by omega), e 5 (by omega), h0, hg_sg_0, hg_sg_1]; omega
  · rw [e1, e 0 (by omega), e 1 (by omega), e 2 (by omega), e 3 (by omega), e 4 (by omega), h0, hg_sg_0, hg_sg_1]
theorem hg_cnt_le {a : Nat → Int32} {q : Nat} (hq : q ≤ 5) (h0 : a q = 0) : hg_cnt a ≤ 5 := by
  have s0 := hg_sg_le (a 0)
  have s1 := hg_sg_le (a 1)
  have s2 := hg_sg_le (a 2)
  have s3 := hg_sg_le (a 3)
  have s4 := hg_sg_le (a 4)
  have s5 := hg_sg_le (a 5)
  have z : hg_sg (a q) = 0 := by rw [h0]; exact hg_sg_0
  unfold hg_cnt
  rcases (show q = 0 ∨ q = 1 ∨ q = 2 ∨ q = 3 ∨ q = 4 ∨ q = 5 by omega) with e | e | e | e | e | e <;> subst e <;> omega
/-- the search's tree: n tasks are settled, q comes next; dep is a ghost: in which step a task was reached -/
def hg_T (c : Nat → Nat → Int) (n q : Nat) (h b dep : Nat → Nat) (a : Nat → Int32) (U V L : Nat → Int) : Prop :=
  q ≤ 5 ∧ a q = 0 ∧ hg_cnt a = n ∧ dep q = n ∧
  (∀ j, j ≤ 5 → ¬ a j = 0 → h j ≠ 0 ∧ dep j < n) ∧
  (∀ j, 1 ≤ j → j ≤ 5 → a j = 0 → (∀ t, t ≤ 5 → ¬ a t = 0 → L j ≤ c (h t) j - U (h t) - V j) ∧ ((L j = 100000000000 ∧ n = 0) ∨ (b j ≤ 5 ∧ ¬ a (b j) = 0 ∧ L j = c (h (b j)) j - U (h (b j)) - V j))) ∧
  (∀ j, 1 ≤ j → j ≤ 5 → (¬ a j = 0 ∨ j = q) → b j ≤ 5 ∧ ¬ a (b j) = 0 ∧ dep (b j) < dep j ∧ U (h (b j)) + V j = c (h (b j)) j)
/-- bounds: a task is free, so no price runs away -/
theorem hg_bd {C : Nat → Nat → Nat} {w : Nat} {h : Nat → Nat} {U V : Nat → Int} (hC : ∀ i j, i < 5 → j < 5 → C i j ≤ 1000000000) (hH : hg_H w h) (hP : hg_P (hg_c C) w h U V) :
    ∃ z, 1 ≤ z ∧ z ≤ 5 ∧ h z = 0 ∧ V z = 0 ∧ (∀ i, 1 ≤ i → i ≤ w → U i ≤ 1000000000) ∧ (∀ j, 1 ≤ j → j ≤ 5 → -1000000000 ≤ V j) := by
  obtain ⟨w1, w5, h0, hl, hi, hs⟩ := hH
  obtain ⟨p1, p2, p3, p4, p5, p6⟩ := hP
  obtain ⟨z, z1, z5, hz⟩ := hg_free (h := h) (fun j a b => by have t := hl j a b; omega) (fun j l a b c d => hi j l b d)
  have vz := p6 z z1 z5 hz
  have hU : ∀ i, 1 ≤ i → i ≤ w → U i ≤ 1000000000 := by
    intro i i1 iw
    have t := p1 i z i1 iw z1 z5
    have t2 := hC (i - 1) (z - 1) (by omega) (by omega)
    have t3 : U i + V z ≤ (C (i - 1) (z - 1) : Int) := t
    omega
  refine ⟨z, z1, z5, hz, vz, hU, fun j j1 j5 => ?_⟩
  by_cases e : h j = 0
  · rw [p6 j j1 j5 e]; omega
  · have t := p2 j j1 j5 e
    have t2 := hU (h j) (by omega) (by have t4 := hl j j1 j5; omega)
    have t3 : U (h j) + V j = (C (h j - 1) (j - 1) : Int) := t
    omega
end
section
/-! one step of the search, and the way back, pure -/
theorem hg_step1 {C : Nat → Nat → Nat} {w n q : Nat} {h b b1 dep : Nat → Nat} {a a1 : Nat → Int32} {U V L L1 : Nat → Int}
    (hC : ∀ i j, i < 5 → j < 5 → C i j ≤ 1000000000) (hH : hg_H w h) (hP : hg_P (hg_c C) w h U V) (hT : hg_T (hg_c C) n q h b dep a U V L) (hq : h q ≠ 0) (ea : a1 = upd a q 1)
    (r9 : ∀ j, 1 ≤ j → j ≤ 5 → a1 j = 0 → (hg_c C (h q) j - U (h q) - V j < L j ∧ L1 j = hg_c C (h q) j - U (h q) - V j ∧ b1 j = q) ∨ (L j ≤ hg_c C (h q) j - U (h q) - V j ∧ L1 j = L j ∧ b1 j = b j)) :
    (∀ j, 1 ≤ j → j ≤ 5 → a1 j = 0 → 0 ≤ L1 j ∧ L1 j ≤ 100000000000 ∧ b1 j ≤ 5 ∧ ¬ a1 (b1 j) = 0 ∧ L1 j = hg_c C (h (b1 j)) j - U (h (b1 j)) - V j ∧ ∀ t, t ≤ 5 → ¬ a1 t = 0 → L1 j ≤ hg_c C (h t) j - U (h t) - V j) ∧ (∃ z, 1 ≤ z ∧ z ≤ 5 ∧ a1 z = 0 ∧ L1 z ≤ 1000000000) := by
  obtain ⟨z, z1, z5, hz, vz, hU, hV⟩ := hg_bd hC hH hP
  obtain ⟨w1, w5, h0, hl, hi, hs⟩ := hH
  obtain ⟨p1, p2, p3, p4, p5, p6⟩ := hP
  obtain ⟨t1, t2, t3, t4, t5, t6, t7⟩ := hT
  have aq : a1 q = 1 := by rw [ea]; exact pk_us
  have aqn : ¬ a1 q = 0 := by rw [aq]; decide
  have an : ∀ j, j ≠ q → a1 j = a j := fun j hj => by rw [ea]; exact pk_un hj
  have a0 : ∀ j, a1 j = 0 → j ≠ q ∧ a j = 0 := by
    intro j hj
    have n1 : j ≠ q := fun e => aqn (by rw [← e]; exact hj)
    exact ⟨n1, by rw [← an j n1]; exact hj⟩
  have as : ∀ t, ¬ a t = 0 → t ≠ q ∧ ¬ a1 t = 0 := by
    intro t ht
    have n1 : t ≠ q := fun e => ht (by rw [e]; exact t2)
    exact ⟨n1, by rw [an t n1]; exact ht⟩
  have hw : ∀ t, t ≤ 5 → h t ≤ w := by
    intro t ht
    by_cases e : t = 0
    · rw [e, h0]; omega
    · have u := hl t (by omega) ht
      omega
  have hset : ∀ t, t ≤ 5 → ¬ a1 t = 0 → h t ≠ 0 := by
    intro t ht hn
    by_cases e : t = q
    · rw [e]; exact hq
    · exact (t5 t ht (by rw [← an t e]; exact hn)).1
  have rc0 : ∀ t j, t ≤ 5 → ¬ a1 t = 0 → 1 ≤ j → j ≤ 5 → 0 ≤ hg_c C (h t) j - U (h t) - V j ∧ hg_c C (h t) j - U (h t) - V j ≤ 2000000000 ∧ hg_c C (h t) j ≤ 1000000000 := by
    intro t j ht hn j1 j5
    have n0 := hset t ht hn
    have u := p1 (h t) j (by omega) (hw t ht) j1 j5
    have u2 := p3 (h t) (by omega) (by have u4 := hw t ht; omega)
    have u3 := hV j j1 j5
    have u4 : hg_c C (h t) j ≤ 1000000000 := by
      have u5 := hC (h t - 1) (j - 1) (by have u6 := hw t ht; omega) (by omega)
      show ((C (h t - 1) (j - 1) : Nat) : Int) ≤ 1000000000
      omega
    omega
  have main : ∀ j, 1 ≤ j → j ≤ 5 → a1 j = 0 → b1 j ≤ 5 ∧ ¬ a1 (b1 j) = 0 ∧ L1 j = hg_c C (h (b1 j)) j - U (h (b1 j)) - V j ∧ ∀ t, t ≤ 5 → ¬ a1 t = 0 → L1 j ≤ hg_c C (h t) j - U (h t) - V j := by
    intro j j1 j5 hj
    obtain ⟨jq, aj⟩ := a0 j hj
    obtain ⟨k1, k2⟩ := t6 j j1 j5 aj
    rcases r9 j j1 j5 hj with ⟨x1, x2, x3⟩ | ⟨x1, x2, x3⟩
    · rw [x3]
      refine ⟨t1, aqn, x2, fun t ht hn => ?_⟩
      by_cases e : t = q
      · rw [e]; omega
      · have u := k1 t ht (by rw [← an t e]; exact hn)
        omega
    · rcases k2 with ⟨y1, y2⟩ | ⟨y1, y2, y3⟩
      · have u := rc0 q j t1 aqn j1 j5
        omega
      · rw [x3]
        refine ⟨y1, (as _ y2).2, by omega, fun t ht hn => ?_⟩
        by_cases e : t = q
        · rw [e]; omega
        · have u := k1 t ht (by rw [← an t e]; exact hn)
          omega
  refine ⟨fun j j1 j5 hj => ?_, z, z1, z5, ?_, ?_⟩
  · obtain ⟨m1, m2, m3, m4⟩ := main j j1 j5 hj
    have u := rc0 (b1 j) j m1 m2 j1 j5
    exact ⟨by omega, by omega, m1, m2, m3, m4⟩
  · apply Classical.byContradiction
    intro hn
    exact hset z z5 hn hz
  · have az : a1 z = 0 := by
      apply Classical.byContradiction
      intro hn
      exact hset z z5 hn hz
    obtain ⟨m1, m2, m3, m4⟩ := main z z1 z5 az
    have u := m4 q t1 aqn
    have u2 := (rc0 q z t1 aqn z1 z5).2.2
    have u3 := p3 (h q) (by omega) (by have u4 := hw q t1; omega)
    omega
theorem hg_step2 {C : Nat → Nat → Nat} {w n q e : Nat} {h b b1 dep : Nat → Nat} {a a1 : Nat → Int32} {U V L L1 U' V' L' : Nat → Int}
    (hH : hg_H w h) (hP : hg_P (hg_c C) w h U V) (hT : hg_T (hg_c C) n q h b dep a U V L) (hq : h q ≠ 0) (ea : a1 = upd a q 1)
    (f1 : ∀ j, 1 ≤ j → j ≤ 5 → a1 j = 0 → 0 ≤ L1 j ∧ L1 j ≤ 100000000000 ∧ b1 j ≤ 5 ∧ ¬ a1 (b1 j) = 0 ∧ L1 j = hg_c C (h (b1 j)) j - U (h (b1 j)) - V j ∧ ∀ t, t ≤ 5 → ¬ a1 t = 0 → L1 j ≤ hg_c C (h t) j - U (h t) - V j)
    (hb : ∀ j, j ≤ 5 → ¬ a1 j = 0 → b1 j = b j)
    (e1 : 1 ≤ e) (e5 : e ≤ 5) (ae : a1 e = 0) (emin : ∀ j, 1 ≤ j → j ≤ 5 → a1 j = 0 → L1 e ≤ L1 j)
    (u1 : ∀ k, k ≤ 5 → ¬ a1 k = 0 → U' (h k) = U (h k) + L1 e)
    (u2 : ∀ i, (∀ k, k ≤ 5 → ¬ a1 k = 0 → h k ≠ i) → U' i = U i)
    (v1 : ∀ k, 1 ≤ k → k ≤ 5 → a1 k = 0 → V' k = V k) (v2 : ∀ k, 1 ≤ k → k ≤ 5 → ¬ a1 k = 0 → V' k = V k - L1 e)
    (l1 : ∀ k, 1 ≤ k → k ≤ 5 → a1 k = 0 → L' k = L1 k - L1 e) :
    hg_P (hg_c C) w h U' V' ∧ ∃ dep', hg_T (hg_c C) (n + 1) e h b1 dep' a1 U' V' L' := by
  obtain ⟨w1, w5, h0, hl, hi, hs⟩ := hH
  obtain ⟨p1, p2, p3, p4, p5, p6⟩ := hP
  obtain ⟨t1, t2, t3, t4, t5, t6, t7⟩ := hT
  have d0 : 0 ≤ L1 e := (f1 e e1 e5 ae).1
  have aq : a1 q = 1 := by rw [ea]; exact pk_us
  have aqn : ¬ a1 q = 0 := by rw [aq]; decide
  have an : ∀ j, j ≠ q → a1 j = a j := fun j hj => by rw [ea]; exact pk_un hj
  have as : ∀ t, ¬ a t = 0 → ¬ a1 t = 0 := by
    intro t ht
    have n1 : t ≠ q := fun z => ht (by rw [z]; exact t2)
    rw [an t n1]; exact ht
  have hw : ∀ t, t ≤ 5 → h t ≤ w := by
    intro t ht
    by_cases z : t = 0
    · rw [z, h0]; omega
    · have u := hl t (by omega) ht
      omega
  have hset : ∀ t, t ≤ 5 → ¬ a1 t = 0 → h t ≠ 0 := by
    intro t ht hn
    by_cases z : t = q
    · rw [z]; exact hq
    · exact (t5 t ht (by rw [← an t z]; exact hn)).1
  have V01 : ∀ j, 1 ≤ j → j ≤ 5 → V' j ≤ V j := by
    intro j j1 j5
    by_cases z : a1 j = 0
    · rw [v1 j j1 j5 z]; omega
    · rw [v2 j j1 j5 z]; omega
  have Ucase : ∀ i, (∃ k, k ≤ 5 ∧ ¬ a1 k = 0 ∧ h k = i) ∨ U' i = U i := by
    intro i
    by_cases z : ∃ k, k ≤ 5 ∧ ¬ a1 k = 0 ∧ h k = i
    · exact Or.inl z
    · exact Or.inr (u2 i (fun k k5 kn ke => z ⟨k, k5, kn, ke⟩))
  refine ⟨⟨?_, ?_, ?_, ?_, ?_, ?_⟩, fun j => if j = e then n + 1 else dep j, e5, ae, ?_, if_pos rfl, ?_, ?_, ?_⟩
  · intro i j i1 iw j1 j5
    have u := p1 i j i1 iw j1 j5
    rcases Ucase i with ⟨k, k5, kn, ke⟩ | hu
    · have x1 := u1 k k5 kn
      rw [ke] at x1
      by_cases z : a1 j = 0
      · have x2 := v1 j j1 j5 z
        have x3 := (f1 j j1 j5 z).2.2.2.2.2 k k5 kn
        rw [ke] at x3
        have x4 := emin j j1 j5 z
        omega
      · have x2 := v2 j j1 j5 z
        omega
    · have x2 := V01 j j1 j5
      omega
  · intro j j1 j5 hj
    have u := p2 j j1 j5 hj
    by_cases z : a1 j = 0
    · have x1 : U' (h j) = U (h j) := u2 _ (fun k k5 kn ke => by
        have x2 := hi k j k5 j5 ke (by rw [ke]; exact hj)
        exact kn (by rw [x2]; exact z))
      have x2 := v1 j j1 j5 z
      omega
    · have x1 := u1 j j5 z
      have x2 := v2 j j1 j5 z
      omega
  · intro i i1 i5
    have u := p3 i i1 i5
    rcases Ucase i with ⟨k, k5, kn, ke⟩ | hu
    · have x1 := u1 k k5 kn
      rw [ke] at x1
      omega
    · omega
  · intro i iw i5
    have u := p4 i iw i5
    rcases Ucase i with ⟨k, k5, kn, ke⟩ | hu
    · have x1 := hw k k5
      omega
    · omega
  · intro j j1 j5
    have u := p5 j j1 j5
    have x := V01 j j1 j5
    omega
  · intro j j1 j5 hj
    have z : a1 j = 0 := by
      apply Classical.byContradiction
      intro hn
      exact hset j j5 hn hj
    rw [v1 j j1 j5 z]
    exact p6 j j1 j5 hj
  · rw [ea, hg_cnt_up t1 t2, t3]
  · intro j j5 hn
    refine ⟨hset j j5 hn, ?_⟩
    have je : j ≠ e := fun z => hn (by rw [z]; exact ae)
    show (if j = e then n + 1 else dep j) < n + 1
    rw [if_neg je]
    by_cases z : j = q
    · rw [z, t4]; omega
    · have x := (t5 j j5 (by rw [← an j z]; exact hn)).2
      omega
  · intro j j1 j5 z
    obtain ⟨g1, g2, g3, g4, g5, g6⟩ := f1 j j1 j5 z
    have x1 := l1 j j1 j5 z
    have x2 := v1 j j1 j5 z
    refine ⟨fun t ht hn => ?_, Or.inr ⟨g3, g4, ?_⟩⟩
    · have x3 := g6 t ht hn
      have x4 := u1 t ht hn
      omega
    · have x4 := u1 (b1 j) g3 g4
      omega
  · intro j j1 j5 hj
    show b1 j ≤ 5 ∧ ¬ a1 (b1 j) = 0 ∧ (if b1 j = e then n + 1 else dep (b1 j)) < (if j = e then n + 1 else dep j) ∧ U' (h (b1 j)) + V' j = hg_c C (h (b1 j)) j
    by_cases je : j = e
    · obtain ⟨g1, g2, g3, g4, g5, g6⟩ := f1 e e1 e5 ae
      rw [je, if_pos rfl]
      have be : b1 e ≠ e := fun z => g4 (by rw [z]; exact ae)
      refine ⟨g3, g4, ?_, ?_⟩
      · rw [if_neg be]
        by_cases z : b1 e = q
        · rw [z, t4]; omega
        · have x := (t5 (b1 e) g3 (by rw [← an _ z]; exact g4)).2
          omega
      · have x4 := u1 (b1 e) g3 g4
        have x2 := v1 e e1 e5 ae
        omega
    · have hn : ¬ a1 j = 0 := by
        rcases hj with z | z
        · exact z
        · exact absurd z je
      have x0 : b j ≤ 5 ∧ ¬ a (b j) = 0 ∧ dep (b j) < dep j ∧ U (h (b j)) + V j = hg_c C (h (b j)) j := by
        by_cases z : j = q
        · exact t7 j j1 j5 (Or.inr z)
        · exact t7 j j1 j5 (Or.inl (by rw [← an j z]; exact hn))
      obtain ⟨g1, g2, g3, g4⟩ := x0
      have g5 := as _ g2
      rw [hb j j5 hn]
      have be : b j ≠ e := fun z => g5 (by rw [z]; exact ae)
      rw [if_neg be, if_neg je]
      have x4 := u1 (b j) g1 g5
      have x2 := v2 j j1 j5 hn
      exact ⟨g1, g5, g3, by omega⟩
/-- the way back: at is the hole, x steps are done, h the holders before, g now -/
def hg_G (c : Nat → Nat → Int) (w q x at_ : Nat) (h g dep : Nat → Nat) (a : Nat → Int32) (U V : Nat → Int) : Prop :=
  at_ ≤ 5 ∧ x + dep at_ ≤ 5 ∧ (¬ a at_ = 0 ∨ at_ = q) ∧
  (∀ j, j ≤ 5 → ¬ a j = 0 → dep j < dep at_ → g j = h j) ∧
  (∀ j l, j ≤ 5 → l ≤ 5 → j ≠ at_ → l ≠ at_ → g j = g l → g j ≠ 0 → j = l) ∧
  (∀ i, 1 ≤ i → i ≤ w → ∃ j, j ≤ 5 ∧ j ≠ at_ ∧ g j = i) ∧
  (∀ j, j ≤ 5 → g j ≤ w) ∧
  (∀ j, 1 ≤ j → j ≤ 5 → j ≠ at_ → g j ≠ 0 → U (g j) + V j = c (g j) j) ∧
  (∀ j, 1 ≤ j → j ≤ 5 → j ≠ at_ → g j = 0 → V j = 0)
theorem hg_G0 {C : Nat → Nat → Nat} {w n q : Nat} {h b dep : Nat → Nat} {a : Nat → Int32} {U V L : Nat → Int}
    (hH : hg_H w h) (hP : hg_P (hg_c C) w h U V) (hT : hg_T (hg_c C) n q h b dep a U V L) (hq : h q = 0) : hg_G (hg_c C) w q 0 q h h dep a U V := by
  obtain ⟨w1, w5, h0, hl, hi, hs⟩ := hH
  obtain ⟨p1, p2, p3, p4, p5, p6⟩ := hP
  obtain ⟨t1, t2, t3, t4, t5, t6, t7⟩ := hT
  have x := hg_cnt_le t1 t2
  refine ⟨t1, by omega, Or.inr rfl, fun j _ _ _ => rfl, fun j l j5 l5 _ _ => hi j l j5 l5, fun i i1 iw => ?_, fun j j5 => ?_, fun j j1 j5 _ => p2 j j1 j5, fun j j1 j5 _ => p6 j j1 j5⟩
  · obtain ⟨j, j5, e⟩ := hs i i1 iw
    exact ⟨j, j5, fun z => by rw [z] at e; omega, e⟩
  · by_cases z : j = 0
    · rw [z, h0]; omega
    · have u := hl j (by omega) j5
      omega
theorem hg_G1 {C : Nat → Nat → Nat} {w n q x p : Nat} {h g g' b dep : Nat → Nat} {a : Nat → Int32} {U V L : Nat → Int}
    (hT : hg_T (hg_c C) n q h b dep a U V L) (hG : hg_G (hg_c C) w q x p h g dep a U V) (hp : p ≠ 0) (e1 : g' p = g (b p)) (e2 : ∀ j, j ≠ p → g' j = g j) :
    b p ≤ 5 ∧ x + 1 ≤ 5 ∧ hg_G (hg_c C) w q (x + 1) (b p) h g' dep a U V := by
  obtain ⟨t1, t2, t3, t4, t5, t6, t7⟩ := hT
  obtain ⟨g1, g2, g3, g4, g5, g6, g7, g8, g9⟩ := hG
  obtain ⟨b1, b2, b3, b4⟩ := t7 p (by omega) g1 g3
  have gb : g (b p) = h (b p) := g4 (b p) b1 b2 b3
  have hb0 : h (b p) ≠ 0 := (t5 (b p) b1 b2).1
  have bp : b p ≠ p := fun z => by rw [z] at b3; omega
  refine ⟨b1, by omega, b1, by omega, Or.inl b2, fun j j5 jn jd => ?_, fun j l j5 l5 jb lb je jz => ?_, fun i i1 iw => ?_, fun j j5 => ?_, fun j j1 j5 jb jz => ?_, fun j j1 j5 jb jz => ?_⟩
  · have jp : j ≠ p := fun z => by rw [z] at jd; omega
    rw [e2 j jp]
    exact g4 j j5 jn (by omega)
  · by_cases jp : j = p
    · by_cases lp_ : l = p
      · rw [jp, lp_]
      · rw [jp, e1, e2 l lp_] at je
        rw [jp, e1] at jz
        exact absurd (g5 (b p) l b1 l5 bp lp_ je jz).symm lb
    · by_cases lp_ : l = p
      · rw [lp_, e1, e2 j jp] at je
        rw [e2 j jp] at jz
        exact absurd (g5 j (b p) j5 b1 jp bp je jz) jb
      · rw [e2 j jp, e2 l lp_] at je
        rw [e2 j jp] at jz
        exact g5 j l j5 l5 jp lp_ je jz
  · obtain ⟨j, j5, jp, je⟩ := g6 i i1 iw
    by_cases z : j = b p
    · exact ⟨p, g1, fun y => bp y.symm, by rw [e1, ← z]; exact je⟩
    · exact ⟨j, j5, z, by rw [e2 j jp]; exact je⟩
  · by_cases jp : j = p
    · rw [jp, e1]; exact g7 _ b1
    · rw [e2 j jp]; exact g7 j j5
  · by_cases jp : j = p
    · rw [jp, e1, gb]; exact b4
    · rw [e2 j jp] at jz
      rw [e2 j jp]
      exact g8 j j1 j5 jp jz
  · by_cases jp : j = p
    · rw [jp, e1, gb] at jz
      exact absurd jz hb0
    · rw [e2 j jp] at jz
      exact g9 j j1 j5 jp jz
theorem hg_G2 {c : Nat → Nat → Int} {w q x : Nat} {h h' g dep : Nat → Nat} {a : Nat → Int32} {U V : Nat → Int}
    (hP : hg_P c w h' U V) (hG : hg_G c w q x 0 h g dep a U V) : hg_M c w g U V := by
  obtain ⟨p1, p2, p3, p4, p5, p6⟩ := hP
  obtain ⟨g1, g2, g3, g4, g5, g6, g7, g8, g9⟩ := hG
  refine ⟨fun j j1 j5 => g7 j j5, fun i i1 iw => ?_, fun j l j1 j5 l1 l5 je jz => g5 j l j5 l5 (by omega) (by omega) je jz, p1, fun j j1 j5 jz => g8 j j1 j5 (by omega) jz, p3, p4, p5, fun j j1 j5 jz => g9 j j1 j5 (by omega) jz⟩
  obtain ⟨j, j5, j0, je⟩ := g6 i i1 iw
  exact ⟨j, by omega, j5, je⟩
end
section
/-! nextTask: its three loops -/
theorem hg_addI {x y : Int64} (h1 : -4000000000000000000 ≤ x.toInt) (h2 : x.toInt ≤ 4000000000000000000) (h3 : -4000000000000000000 ≤ y.toInt) (h4 : y.toInt ≤ 4000000000000000000) : (x + y).toInt = x.toInt + y.toInt := by
  rw [Int64.toInt_add]
  exact Int.bmod_eq_of_le (by omega) (by omega)
theorem hg_subI {x y : Int64} (h1 : -4000000000000000000 ≤ x.toInt) (h2 : x.toInt ≤ 4000000000000000000) (h3 : -4000000000000000000 ≤ y.toInt) (h4 : y.toInt ≤ 4000000000000000000) : (x - y).toInt = x.toInt - y.toInt := by
  rw [Int64.toInt_sub]
  exact Int.bmod_eq_of_le (by omega) (by omega)
theorem hg_m1 {n : Nat} (h : 1 ≤ n) : nI n - 1 = nI (n - 1) := by
  have t := nI_pred (n - 1)
  rw [show n - 1 + 1 = n by omega] at t
  exact t
/-- valueOf answers C, whatever the six arrays of the search hold -/
def hg_Orc (C : Nat → Nat → Nat) (fs fe ff fp fw fo fl pw pt : Int32) (a1 a2 : Nat → Int32) (a3 : Nat → Int64) (a4 a5 a6 : Nat → Int32) (a7 : Nat → Int64) : Prop :=
  ∀ i j, i < 5 → j < 5 → ∀ (post : Int64 → Prop) (a8 a9 : Nat → Int64) (a10 a11 : Nat → Int32) (a12 : Nat → Int64) (a13 : Nat → Int32), post (lN (C i j)) → wpX_valueOf post (fs, fe, ff, fp, fw, fo, fl, pw, pt, a1, a2, a3, a4, a5, a6, a7, a8, a9, a10, a11, a12, a13) (nI i) (nI j)
theorem hg_150 {post : Int32 → St2 → Prop} {x3 : Int32} {x4 : Int64} {fs fe ff fp fw fo fl pw pt : Int32} {a1 a2 : Nat → Int32} {a3 : Nat → Int64} {a4 a5 a6 : Nat → Int32} {a7 a8 a9 : Nat → Int64} {a10 a11 : Nat → Int32} {a12 : Nat → Int64} {a13 : Nat → Int32} {h : Nat → Nat}
    (hh : ∀ k, k ≤ 5 → a10 k = nI (h k) ∧ h k ≤ 5)
    (hi : ∀ j k, j ≤ 5 → k ≤ 5 → ¬ a13 j = 0 → ¬ a13 k = 0 → h j = h k → j = k)
    (hb : 0 ≤ x4.toInt ∧ x4.toInt ≤ 1000000000)
    (hU : ∀ k, k ≤ 5 → ¬ a13 k = 0 → 0 ≤ (a8 (h k)).toInt ∧ (a8 (h k)).toInt ≤ 1000000000)
    (hV : ∀ k, 1 ≤ k → k ≤ 5 → -1000000000 ≤ (a9 k).toInt ∧ (a9 k).toInt ≤ 0)
    (hL : ∀ k, 1 ≤ k → k ≤ 5 → a13 k = 0 → 0 ≤ (a12 k).toInt ∧ (a12 k).toInt ≤ 100000000000)
    (H : ∀ (a8' a9' a12' : Nat → Int64),
      (∀ k, k ≤ 5 → ¬ a13 k = 0 → (a8' (h k)).toInt = (a8 (h k)).toInt + x4.toInt) →
      (∀ i, (∀ k, k ≤ 5 → ¬ a13 k = 0 → h k ≠ i) → a8' i = a8 i) →
      (∀ k, 1 ≤ k → k ≤ 5 → a13 k = 0 → a9' k = a9 k) →
      (∀ k, 1 ≤ k → k ≤ 5 → ¬ a13 k = 0 → (a9' k).toInt = (a9 k).toInt - x4.toInt) →
      (∀ k, 1 ≤ k → k ≤ 5 → a13 k = 0 → (a12' k).toInt = (a12 k).toInt - x4.toInt) →
      post x3 (fs, fe, ff, fp, fw, fo, fl, pw, pt, a1, a2, a3, a4, a5, a6, a7, a8', a9', a10, a11, a12', a13)) :
    ∃ n, wX_nextTask_150 post x3 x4 fs fe ff fp fw fo fl pw pt n 0 a1 a2 a3 a4 a5 a6 a7 a8 a9 a10 a11 a12 a13 := by
  refine pk_loop (σ := (Nat → Int64) × (Nat → Int64) × (Nat → Int64)) (fun n k s => wX_nextTask_150 post x3 x4 fs fe ff fp fw fo fl pw pt n (nI k) a1 a2 a3 a4 a5 a6 a7 s.1 s.2.1 a10 a11 s.2.2 a13)
    (fun k s => (∀ j, j < k → ¬ a13 j = 0 → (s.1 (h j)).toInt = (a8 (h j)).toInt + x4.toInt) ∧
      (∀ i, (∀ j, j < k → ¬ a13 j = 0 → h j ≠ i) → s.1 i = a8 i) ∧
      (∀ j, 1 ≤ j → j ≤ 5 → (a13 j = 0 ∨ k ≤ j) → s.2.1 j = a9 j) ∧
      (∀ j, 1 ≤ j → j ≤ 5 → ¬ a13 j = 0 → j < k → (s.2.1 j).toInt = (a9 j).toInt - x4.toInt) ∧
      (∀ j, 1 ≤ j → j ≤ 5 → a13 j = 0 → j < k → (s.2.2 j).toInt = (a12 j).toInt - x4.toInt) ∧
      (∀ j, k ≤ j → s.2.2 j = a12 j)) 6 0 (a8, a9, a12) (by omega)
    ⟨fun j hj => absurd hj (by omega), fun i _ => rfl, fun j _ _ _ => rfl, fun j _ _ _ hj => absurd hj (by omega), fun j _ _ _ hj => absurd hj (by omega), fun j _ => rfl⟩ ?_ ?_
  · intro n s hI
    obtain ⟨i1, i2, i3, i4, i5, i6⟩ := hI
    refine pk_le 6 6 (fun _ => ?_) (fun z => absurd z (by omega))
    exact H s.1 s.2.1 s.2.2 (fun k k5 => i1 k (by omega)) (fun i hn => i2 i (fun j hj => hn j (by omega))) (fun k k1 k5 z => i3 k k1 k5 (Or.inl z)) (fun k k1 k5 z => i4 k k1 k5 z (by omega)) (fun k k1 k5 z => i5 k k1 k5 z (by omega))
  · intro n k s hk hI hw
    obtain ⟨i1, i2, i3, i4, i5, i6⟩ := hI
    obtain ⟨hh1, hh2⟩ := hh k (by omega)
    refine pk_le 6 k (fun z => absurd z (by omega)) (fun _ => ⟨pk_in k 6 hk, ?_⟩)
    rw [nI_clamp (show k < 2 ^ 31 by omega), hh1, nI_clamp (show h k < 2 ^ 31 by omega)]
    refine br_c (fun z => ?_) (fun z => ?_)
    · refine ⟨pk_in k 6 hk, pk_in k 6 hk, nm_e (nm_r (nI_1 k) (hw (s.1, s.2.1, vp_updL s.2.2 k (s.2.2 k - x4)) ⟨?_, ?_, ?_, ?_, ?_, ?_⟩))⟩
      · intro j hj hn
        exact i1 j (by have x : j ≠ k := fun y => hn (by rw [y]; exact z)
                       omega) hn
      · intro i hn
        exact i2 i (fun j hj => hn j (by omega))
      · intro j j1 j5 hj
        refine i3 j j1 j5 ?_
        rcases hj with y | y
        · exact Or.inl y
        · exact Or.inr (by omega)
      · intro j j1 j5 hn hj
        exact i4 j j1 j5 hn (by have x : j ≠ k := fun y => hn (by rw [y]; exact z)
                                omega)
      · intro j j1 j5 hn hj
        show (vp_updL s.2.2 k (s.2.2 k - x4) j).toInt = (a12 j).toInt - x4.toInt
        by_cases y : j = k
        · subst y
          have l := hL j j1 j5 hn
          rw [pk_uLs, i6 j (by omega)]
          exact hg_subI (by omega) (by omega) (by omega) (by omega)
        · rw [pk_uLn y]
          exact i5 j j1 j5 hn (by omega)
      · intro j hj
        show vp_updL s.2.2 k (s.2.2 k - x4) j = a12 j
        rw [pk_uLn (by omega)]
        exact i6 j (by omega)
    · have u0 : s.1 (h k) = a8 (h k) := i2 (h k) (fun j hj hn e => by
        have x := hi j k (by omega) (by omega) hn z e
        omega)
      have uk := hU k (by omega) z
      refine ⟨pk_in k 6 hk, pk_in (h k) 6 (by omega), pk_in (h k) 6 (by omega), nm_e ⟨pk_in k 6 hk, pk_in k 6 hk, nm_e (nm_r (nI_1 k) (hw (vp_updL s.1 (h k) (s.1 (h k) + x4), vp_updL s.2.1 k (s.2.1 k - x4), s.2.2) ⟨?_, ?_, ?_, ?_, ?_, ?_⟩))⟩⟩
      · intro j hj hn
        show (vp_updL s.1 (h k) (s.1 (h k) + x4) (h j)).toInt = (a8 (h j)).toInt + x4.toInt
        by_cases y : j = k
        · subst y
          rw [pk_uLs, u0]
          exact hg_addI (by omega) (by omega) (by omega) (by omega)
        · have x : h j ≠ h k := fun e => y (hi j k (by omega) (by omega) hn z e)
          rw [pk_uLn x]
          exact i1 j (by omega) hn
      · intro i hn
        show vp_updL s.1 (h k) (s.1 (h k) + x4) i = a8 i
        have x : i ≠ h k := fun e => hn k (by omega) z e.symm
        rw [pk_uLn x]
        exact i2 i (fun j hj => hn j (by omega))
      · intro j j1 j5 hj
        show vp_updL s.2.1 k (s.2.1 k - x4) j = a9 j
        have x : j ≠ k := by
          intro y
          rcases hj with y2 | y2
          · exact z (by rw [← y]; exact y2)
          · omega
        rw [pk_uLn x]
        refine i3 j j1 j5 ?_
        rcases hj with y | y
        · exact Or.inl y
        · exact Or.inr (by omega)
      · intro j j1 j5 hn hj
        show (vp_updL s.2.1 k (s.2.1 k - x4) j).toInt = (a9 j).toInt - x4.toInt
        by_cases y : j = k
        · subst y
          have l := hV j j1 j5
          rw [pk_uLs, i3 j j1 j5 (Or.inr (by omega))]
          exact hg_subI (by omega) (by omega) (by omega) (by omega)
        · rw [pk_uLn y]
          exact i4 j j1 j5 hn (by omega)
      · intro j j1 j5 hn hj
        have x : j ≠ k := fun y => z (by rw [← y]; exact hn)
        exact i5 j j1 j5 hn (by omega)
      · intro j hj
        exact i6 j (by omega)
theorem hg_88 {post : Int32 → St2 → Prop} {fs fe ff fp fw fo fl pw pt : Int32} {a1 a2 : Nat → Int32} {a3 : Nat → Int64} {a4 a5 a6 : Nat → Int32} {a7 a8 a9 : Nat → Int64} {a10 a11 : Nat → Int32} {a12 : Nat → Int64} {a13 : Nat → Int32}
    (hz : ∃ z, 1 ≤ z ∧ z ≤ 5 ∧ a13 z = 0)
    (H : ∀ e, 1 ≤ e → e ≤ 5 → a13 e = 0 → (∀ j, 1 ≤ j → j ≤ 5 → a13 j = 0 → (a12 e).toInt ≤ (a12 j).toInt) → ∃ n, wX_nextTask_150 post (nI e) (a12 e) fs fe ff fp fw fo fl pw pt n 0 a1 a2 a3 a4 a5 a6 a7 a8 a9 a10 a11 a12 a13) :
    ∃ n, wX_nextTask_88 post fs fe ff fp fw fo fl pw pt a1 a2 a3 a4 a5 a6 a7 a8 a9 a10 a11 a12 a13 n 0 1 := by
  refine pk_loop (σ := Nat) (fun n k e => wX_nextTask_88 post fs fe ff fp fw fo fl pw pt a1 a2 a3 a4 a5 a6 a7 a8 a9 a10 a11 a12 a13 n (nI e) (nI k))
    (fun k e => 1 ≤ k ∧ ((e = 0 ∧ ∀ j, 1 ≤ j → j < k → ¬ a13 j = 0) ∨ (1 ≤ e ∧ e < k ∧ a13 e = 0 ∧ ∀ j, 1 ≤ j → j < k → a13 j = 0 → (a12 e).toInt ≤ (a12 j).toInt))) 6 1 0 (by omega)
    ⟨by omega, Or.inl ⟨rfl, fun j h1 h2 => absurd h2 (by omega)⟩⟩ ?_ ?_
  · intro n e hI
    obtain ⟨k1, hI⟩ := hI
    rcases hI with ⟨e0, hn⟩ | ⟨e1, ek, ae, hm⟩
    · obtain ⟨z, z1, z5, az⟩ := hz
      exact absurd az (hn z z1 (by omega))
    · refine pk_le 6 6 (fun _ => ⟨pk_in e 6 ek, ?_⟩) (fun z => absurd z (by omega))
      rw [nI_clamp (show e < 2 ^ 31 by omega)]
      exact nm_e (H e e1 (by omega) ae (fun j j1 j5 => hm j j1 (by omega)))
  · intro n k e hk hI hw
    obtain ⟨k1, hI⟩ := hI
    refine pk_le 6 k (fun z => absurd z (by omega)) (fun _ => ⟨pk_in k 6 hk, ?_⟩)
    rw [nI_clamp (show k < 2 ^ 31 by omega)]
    refine br_c (fun z => ?_) (fun z => nm_r (nI_1 k) (hw e ⟨by omega, ?_⟩))
    · have e6 : e < 6 := by
        rcases hI with ⟨e0, hn⟩ | ⟨e1, ek, ae, hm⟩ <;> omega
      refine pk_eq e 0 (fun y => nm_r (nI_1 k) (hw k ⟨by omega, Or.inr ⟨k1, by omega, z, ?_⟩⟩)) (fun y => ⟨pk_in k 6 hk, pk_in e 6 e6, ?_⟩)
      · intro j j1 jk aj
        rcases hI with ⟨e0, hn⟩ | ⟨e1, ek, ae, hm⟩
        · by_cases x : j = k
          · rw [x]; omega
          · exact absurd aj (hn j j1 (by omega))
        · omega
      · rw [nI_clamp (show e < 2 ^ 31 by omega)]
        rcases hI with ⟨e0, hn⟩ | ⟨e1, ek, ae, hm⟩
        · exact absurd e0 y
        · refine br_c (fun g => nm_r (nI_1 k) (hw e ⟨by omega, Or.inr ⟨e1, by omega, ae, ?_⟩⟩)) (fun g => nm_r (nI_1 k) (hw k ⟨by omega, Or.inr ⟨k1, by omega, z, ?_⟩⟩))
          · intro j j1 jk aj
            by_cases x : j = k
            · rw [x]; exact Int64.le_iff_toInt_le.mp g
            · exact hm j j1 (by omega) aj
          · intro j j1 jk aj
            have g' : ¬ (a12 e).toInt ≤ (a12 k).toInt := fun t => g (Int64.le_iff_toInt_le.mpr t)
            by_cases x : j = k
            · rw [x]; omega
            · have t := hm j j1 (by omega) aj
              omega
    · rcases hI with ⟨e0, hn⟩ | ⟨e1, ek, ae, hm⟩
      · refine Or.inl ⟨e0, fun j j1 jk => ?_⟩
        by_cases x : j = k
        · rw [x]; exact z
        · exact hn j j1 (by omega)
      · refine Or.inr ⟨e1, by omega, ae, fun j j1 jk aj => ?_⟩
        by_cases x : j = k
        · exact absurd (by rw [← x]; exact aj) z
        · exact hm j j1 (by omega) aj
theorem hg_9 {post : Int32 → St2 → Prop} {fs fe ff fp fw fo fl pw pt : Int32} {a1 a2 : Nat → Int32} {a3 : Nat → Int64} {a4 a5 a6 : Nat → Int32} {a7 a8 a9 : Nat → Int64} {a10 a11 : Nat → Int32} {a12 : Nat → Int64} {a13 : Nat → Int32} {C : Nat → Nat → Nat} {q own : Nat} (orc : hg_Orc C fs fe ff fp fw fo fl pw pt a1 a2 a3 a4 a5 a6 a7) (ho1 : 1 ≤ own) (ho5 : own ≤ 5)
    (hC : ∀ i j, i < 5 → j < 5 → C i j ≤ 1000000000)
    (hU : 0 ≤ (a8 own).toInt ∧ (a8 own).toInt ≤ 1000000000)
    (hV : ∀ k, 1 ≤ k → k ≤ 5 → -1000000000 ≤ (a9 k).toInt ∧ (a9 k).toInt ≤ 0)
    (H : ∀ (a11' : Nat → Int32) (a12' : Nat → Int64),
      (∀ j, 1 ≤ j → j ≤ 5 → a13 j = 0 → (hg_c C own j - (a8 own).toInt - (a9 j).toInt < (a12 j).toInt ∧ (a12' j).toInt = hg_c C own j - (a8 own).toInt - (a9 j).toInt ∧ a11' j = nI q) ∨ ((a12 j).toInt ≤ hg_c C own j - (a8 own).toInt - (a9 j).toInt ∧ a12' j = a12 j ∧ a11' j = a11 j)) →
      (∀ j, ¬ (1 ≤ j ∧ j ≤ 5 ∧ a13 j = 0) → a11' j = a11 j) →
      ∃ n, wX_nextTask_88 post fs fe ff fp fw fo fl pw pt a1 a2 a3 a4 a5 a6 a7 a8 a9 a10 a11' a12' a13 n 0 1) :
    ∃ n, wX_nextTask_9 post (nI q) (nI own) fs fe ff fp fw fo fl pw pt n 1 a1 a2 a3 a4 a5 a6 a7 a8 a9 a10 a11 a12 a13 := by
  refine pk_loop (σ := (Nat → Int32) × (Nat → Int64)) (fun n k s => wX_nextTask_9 post (nI q) (nI own) fs fe ff fp fw fo fl pw pt n (nI k) a1 a2 a3 a4 a5 a6 a7 a8 a9 a10 s.1 s.2 a13)
    (fun k s => 1 ≤ k ∧
      (∀ j, 1 ≤ j → j < k → a13 j = 0 → (hg_c C own j - (a8 own).toInt - (a9 j).toInt < (a12 j).toInt ∧ (s.2 j).toInt = hg_c C own j - (a8 own).toInt - (a9 j).toInt ∧ s.1 j = nI q) ∨ ((a12 j).toInt ≤ hg_c C own j - (a8 own).toInt - (a9 j).toInt ∧ s.2 j = a12 j ∧ s.1 j = a11 j)) ∧
      (∀ j, ¬ (1 ≤ j ∧ j < k ∧ a13 j = 0) → s.2 j = a12 j ∧ s.1 j = a11 j)) 6 1 (a11, a12) (by omega)
    ⟨by omega, fun j h1 h2 => absurd h2 (by omega), fun j _ => ⟨rfl, rfl⟩⟩ ?_ ?_
  · intro n s hI
    obtain ⟨k1, i1, i2⟩ := hI
    refine pk_le 6 6 (fun _ => ?_) (fun z => absurd z (by omega))
    exact H s.1 s.2 (fun j j1 j5 => i1 j j1 (by omega)) (fun j hn => (i2 j (fun t => hn ⟨t.1, by omega, t.2.2⟩)).2)
  · intro n k s hk hI hw
    obtain ⟨k1, i1, i2⟩ := hI
    refine pk_le 6 k (fun z => absurd z (by omega)) (fun _ => ⟨pk_in k 6 hk, ?_⟩)
    rw [nI_clamp (show k < 2 ^ 31 by omega), nI_clamp (show own < 2 ^ 31 by omega), hg_m1 ho1, hg_m1 k1]
    refine br_c (fun z => ?_) (fun z => nm_r (nI_1 k) (hw s ⟨by omega, fun j j1 jk aj => ?_, fun j hn => ?_⟩))
    · refine orc (own - 1) (k - 1) (by omega) (by omega) _ a8 a9 a10 s.1 s.2 a13 ?_
      have hv := hV k k1 (by omega)
      have hc := hC (own - 1) (k - 1) (by omega) (by omega)
      have ec : hg_c C own k = (C (own - 1) (k - 1) : Int) := rfl
      have eL : (lN (C (own - 1) (k - 1))).toInt = (C (own - 1) (k - 1) : Int) := pk_lT (by omega)
      have x1 : (lN (C (own - 1) (k - 1)) - a8 own).toInt = (C (own - 1) (k - 1) : Int) - (a8 own).toInt := by
        rw [hg_subI (by omega) (by omega) (by omega) (by omega), eL]
      have x2 : (lN (C (own - 1) (k - 1)) - a8 own - a9 k).toInt = hg_c C own k - (a8 own).toInt - (a9 k).toInt := by
        rw [hg_subI (by omega) (by omega) (by omega) (by omega), x1, ec]
      have sk : s.2 k = a12 k ∧ s.1 k = a11 k := i2 k (fun t => absurd t.2.1 (by omega))
      refine ⟨pk_in own 6 (by omega), pk_in k 6 hk, fun y ey => ⟨pk_in k 6 hk, ?_⟩⟩
      rw [← ey] at x2
      refine br_c (fun g => nm_r (nI_1 k) (hw s ⟨by omega, fun j j1 jk aj => ?_, fun j hn => ?_⟩)) (fun g => ⟨pk_in k 6 hk, nm_e ⟨pk_in k 6 hk, nm_e (nm_r (nI_1 k) (hw (upd s.1 k (nI q), vp_updL s.2 k y) ⟨by omega, fun j j1 jk aj => ?_, fun j hn => ?_⟩))⟩⟩)
      · by_cases e : j = k
        · subst e
          refine Or.inr ⟨?_, sk⟩
          have g' := Int64.le_iff_toInt_le.mp g
          rw [sk.1] at g'
          omega
        · exact i1 j j1 (by omega) aj
      · exact i2 j (fun t => hn ⟨t.1, by omega, t.2.2⟩)
      · show (hg_c C own j - (a8 own).toInt - (a9 j).toInt < (a12 j).toInt ∧ (vp_updL s.2 k y j).toInt = hg_c C own j - (a8 own).toInt - (a9 j).toInt ∧ upd s.1 k (nI q) j = nI q) ∨ ((a12 j).toInt ≤ hg_c C own j - (a8 own).toInt - (a9 j).toInt ∧ vp_updL s.2 k y j = a12 j ∧ upd s.1 k (nI q) j = a11 j)
        by_cases e : j = k
        · subst e
          refine Or.inl ⟨?_, by rw [pk_uLs]; exact x2, pk_us⟩
          have g' : ¬ (s.2 j).toInt ≤ y.toInt := fun t => g (Int64.le_iff_toInt_le.mpr t)
          rw [sk.1] at g'
          omega
        · rw [pk_uLn e, pk_un e]
          exact i1 j j1 (by omega) aj
      · show vp_updL s.2 k y j = a12 j ∧ upd s.1 k (nI q) j = a11 j
        have e : j ≠ k := fun t => hn ⟨by omega, by omega, by rw [t]; exact z⟩
        rw [pk_uLn e, pk_un e]
        exact i2 j (fun t => hn ⟨t.1, by omega, t.2.2⟩)
    · by_cases e : j = k
      · exact absurd (by rw [← e]; exact aj) z
      · exact i1 j j1 (by omega) aj
    · exact i2 j (fun t => hn ⟨t.1, by omega, t.2.2⟩)
end
section
/-! nextTask, bringIn, solve -/
theorem hg_next {post : Int32 → St2 → Prop} {fs fe ff fp fw fo fl pw pt : Int32} {a1 a2 : Nat → Int32} {a3 : Nat → Int64} {a4 a5 a6 : Nat → Int32} {a7 a8 a9 : Nat → Int64} {a10 a11 : Nat → Int32} {a12 : Nat → Int64} {a13 : Nat → Int32} {C : Nat → Nat → Nat} {w n q : Nat} {h dep : Nat → Nat} (orc : hg_Orc C fs fe ff fp fw fo fl pw pt a1 a2 a3 a4 a5 a6 a7)
    (hC : ∀ i j, i < 5 → j < 5 → C i j ≤ 1000000000)
    (hh : ∀ k, k ≤ 5 → a10 k = nI (h k) ∧ h k ≤ 5) (hb : ∀ k, k ≤ 5 → a11 k = nI (a11 k).toNatClampNeg ∧ (a11 k).toNatClampNeg ≤ 5)
    (hH : hg_H w h) (hP : hg_P (hg_c C) w h (fun k => (a8 k).toInt) (fun k => (a9 k).toInt))
    (hT : hg_T (hg_c C) n q h (fun k => (a11 k).toNatClampNeg) dep a13 (fun k => (a8 k).toInt) (fun k => (a9 k).toInt) (fun k => (a12 k).toInt)) (hq : h q ≠ 0)
    (H : ∀ (e : Nat) (a8' a9' : Nat → Int64) (a11' : Nat → Int32) (a12' : Nat → Int64) (dep' : Nat → Nat),
      (∀ k, k ≤ 5 → a11' k = nI (a11' k).toNatClampNeg ∧ (a11' k).toNatClampNeg ≤ 5) →
      hg_P (hg_c C) w h (fun k => (a8' k).toInt) (fun k => (a9' k).toInt) →
      hg_T (hg_c C) (n + 1) e h (fun k => (a11' k).toNatClampNeg) dep' (upd a13 q 1) (fun k => (a8' k).toInt) (fun k => (a9' k).toInt) (fun k => (a12' k).toInt) →
      post (nI e) (fs, fe, ff, fp, fw, fo, fl, pw, pt, a1, a2, a3, a4, a5, a6, a7, a8', a9', a10, a11', a12', upd a13 q 1)) :
    wpX_nextTask post (fs, fe, ff, fp, fw, fo, fl, pw, pt, a1, a2, a3, a4, a5, a6, a7, a8, a9, a10, a11, a12, upd a13 q 1) (nI q) := by
  have q5 : q ≤ 5 := hT.1
  have aq0 : a13 q = 0 := hT.2.1
  obtain ⟨z, z1, z5, hz, vz, bU, bV⟩ := hg_bd hC hH hP
  have hw : ∀ t, t ≤ 5 → h t ≤ w := by
    intro t ht
    by_cases e : t = 0
    · rw [e, hH.2.2.1]; omega
    · have u := hH.2.2.2.1 t (by omega) ht
      omega
  have w5 : w ≤ 5 := hH.2.1
  have hset : ∀ t, t ≤ 5 → ¬ upd a13 q 1 t = 0 → h t ≠ 0 := by
    intro t ht hn
    by_cases e : t = q
    · rw [e]; exact hq
    · exact (hT.2.2.2.2.1 t ht (by rw [pk_un e] at hn; exact hn)).1
  have hU : ∀ t, t ≤ 5 → ¬ upd a13 q 1 t = 0 → 0 ≤ (a8 (h t)).toInt ∧ (a8 (h t)).toInt ≤ 1000000000 := by
    intro t ht hn
    have n0 := hset t ht hn
    have x1 := hw t ht
    exact ⟨hP.2.2.1 (h t) (by omega) (by omega), bU (h t) (by omega) x1⟩
  have hV : ∀ k, 1 ≤ k → k ≤ 5 → -1000000000 ≤ (a9 k).toInt ∧ (a9 k).toInt ≤ 0 := fun k k1 k5 => ⟨bV k k1 k5, hP.2.2.2.2.1 k k1 k5⟩
  have aqn : ¬ upd a13 q 1 q = 0 := by rw [pk_us]; decide
  unfold wpX_nextTask
  refine And.intro (pk_in q 6 (by omega)) ?_
  rw [nI_clamp (show q < 2 ^ 31 by omega), (hh q q5).1]
  refine nm_e (hg_9 orc (by omega) (hh q q5).2 hC (hU q q5 aqn) hV (fun a11' a12' r1 r2 => ?_))
  have hb' : ∀ k, k ≤ 5 → (a11' k = nI q ∨ a11' k = a11 k) := by
    intro k k5
    by_cases e : 1 ≤ k ∧ k ≤ 5 ∧ upd a13 q 1 k = 0
    · rcases r1 k e.1 e.2.1 e.2.2 with x | x
      · exact Or.inl x.2.2
      · exact Or.inr x.2.2
    · exact Or.inr (r2 k e)
  have hb1 : ∀ k, k ≤ 5 → a11' k = nI (a11' k).toNatClampNeg ∧ (a11' k).toNatClampNeg ≤ 5 := by
    intro k k5
    rcases hb' k k5 with e | e
    · rw [e, nI_clamp (show q < 2 ^ 31 by omega)]
      exact ⟨rfl, q5⟩
    · rw [e]
      exact hb k k5
  have s1 := hg_step1 (b1 := fun k => (a11' k).toNatClampNeg) (L1 := fun k => (a12' k).toInt) hC hH hP hT hq rfl (fun j j1 j5 aj => by
    rcases r1 j j1 j5 aj with ⟨x1, x2, x3⟩ | ⟨x1, x2, x3⟩
    · exact Or.inl ⟨x1, x2, by show (a11' j).toNatClampNeg = q; rw [x3]; exact nI_clamp (by omega)⟩
    · exact Or.inr ⟨x1, by show (a12' j).toInt = (a12 j).toInt; rw [x2], by show (a11' j).toNatClampNeg = (a11 j).toNatClampNeg; rw [x3]⟩)
  obtain ⟨f1, z', z1', z5', az', bz'⟩ := s1
  refine hg_88 ⟨z', z1', z5', az'⟩ (fun e e1 e5 ae emin => ?_)
  have hby : 0 ≤ (a12' e).toInt ∧ (a12' e).toInt ≤ 1000000000 := by
    have x1 := (f1 e e1 e5 ae).1
    have x2 := emin z' z1' z5' az'
    have bz : (a12' z').toInt ≤ 1000000000 := bz'
    exact ⟨x1, by omega⟩
  refine hg_150 hh (fun j k j5 k5 jn kn je => hH.2.2.2.2.1 j k j5 k5 je (hset j j5 jn)) hby hU hV (fun k k1 k5 ak => ⟨(f1 k k1 k5 ak).1, (f1 k k1 k5 ak).2.1⟩) (fun a8' a9' a12'' u1 u2 v1 v2 l1 => ?_)
  obtain ⟨P', dep', T'⟩ := hg_step2 (e := e) (b1 := fun k => (a11' k).toNatClampNeg) (L1 := fun k => (a12' k).toInt) (U' := fun k => (a8' k).toInt) (V' := fun k => (a9' k).toInt) (L' := fun k => (a12'' k).toInt) hH hP hT hq rfl f1
    (fun j j5 jn => by
      show (a11' j).toNatClampNeg = (a11 j).toNatClampNeg
      rw [r2 j (fun t => jn t.2.2)]) e1 e5 ae emin u1
    (fun i hn => by
      show (a8' i).toInt = (a8 i).toInt
      rw [u2 i hn])
    (fun k k1 k5 ak => by
      show (a9' k).toInt = (a9 k).toInt
      rw [v1 k k1 k5 ak]) v2 l1
  exact H e a8' a9' a11' a12'' dep' hb1 P' T'
theorem hg_84 {post : St2 → Prop} {fs fe ff fp fw fo fl pw pt : Int32} {a1 a2 : Nat → Int32} {a3 : Nat → Int64} {a4 a5 a6 : Nat → Int32} {a7 a8 a9 : Nat → Int64} {a10 a11 : Nat → Int32} {a12 : Nat → Int64} {a13 : Nat → Int32} {C : Nat → Nat → Nat} {w n q : Nat} {h dep : Nat → Nat} {U V L : Nat → Int}
    (hw : w ≤ 5) (hb : ∀ k, k ≤ 5 → a11 k = nI (a11 k).toNatClampNeg ∧ (a11 k).toNatClampNeg ≤ 5)
    (hP : hg_P (hg_c C) w h U V) (hT : hg_T (hg_c C) n q h (fun k => (a11 k).toNatClampNeg) dep a13 U V L)
    (H : ∀ (a10' : Nat → Int32) (g : Nat → Nat), (∀ k, k ≤ 5 → a10' k = nI (g k) ∧ g k ≤ 5) → hg_M (hg_c C) w g U V → post (fs, fe, ff, fp, fw, fo, fl, pw, pt, a1, a2, a3, a4, a5, a6, a7, a8, a9, a10', a11, a12, a13)) :
    ∀ (d x p : Nat) (a10' : Nat → Int32) (g : Nat → Nat), x + d = 6 → (∀ k, k ≤ 5 → a10' k = nI (g k) ∧ g k ≤ 5) → hg_G (hg_c C) w q x p h g dep a13 U V →
      wX_bringIn_84 post fs fe ff fp fw fo fl pw pt (d + 1) (nI p) (nI x) a1 a2 a3 a4 a5 a6 a7 a8 a9 a10' a11 a12 a13 := by
  intro d
  induction d with
  | zero =>
    intro x p a10' g hx hr hG
    have x5 := hG.2.1
    omega
  | succ d ih =>
    intro x p a10' g hx hr hG
    have p5 : p ≤ 5 := hG.1
    refine pk_le 6 x (fun z => absurd z (by omega)) (fun _ => ?_)
    refine pk_eq p 0 (fun z => ?_) (fun z => ⟨pk_in p 6 (by omega), ?_⟩)
    · subst z
      exact H a10' g hr (hg_G2 hP hG)
    · obtain ⟨b5, x5, hG'⟩ := hg_G1 (g' := fun j => if j = p then g (a11 p).toNatClampNeg else g j) hT hG z (if_pos rfl) (fun j hj => if_neg hj)
      rw [nI_clamp (show p < 2 ^ 31 by omega)]
      refine nm_r (hb p p5).1 ⟨pk_in (a11 p).toNatClampNeg 6 (by have t := (hb p p5).2; omega), pk_in p 6 (by omega), ?_⟩
      have bb := (hb p p5).2
      rw [nI_clamp (show (a11 p).toNatClampNeg < 2 ^ 31 by omega)]
      refine nm_e (nm_r (nI_1 x) (ih (x + 1) (a11 p).toNatClampNeg (upd a10' p (a10' (a11 p).toNatClampNeg)) _ (by omega) (fun k k5 => ?_) hG'))
      show upd a10' p (a10' (a11 p).toNatClampNeg) k = nI (if k = p then g (a11 p).toNatClampNeg else g k) ∧ (if k = p then g (a11 p).toNatClampNeg else g k) ≤ 5
      by_cases e : k = p
      · rw [if_pos e, e, pk_us]
        exact hr _ bb
      · rw [if_neg e, pk_un e]
        exact hr k k5
theorem hg_48 {post : St2 → Prop} {fs fe ff fp fw fo fl pw pt : Int32} {a1 a2 : Nat → Int32} {a3 : Nat → Int64} {a4 a5 a6 : Nat → Int32} {a7 : Nat → Int64} {a10 : Nat → Int32} {C : Nat → Nat → Nat} {w : Nat} {h : Nat → Nat} (orc : hg_Orc C fs fe ff fp fw fo fl pw pt a1 a2 a3 a4 a5 a6 a7)
    (hC : ∀ i j, i < 5 → j < 5 → C i j ≤ 1000000000)
    (hh : ∀ k, k ≤ 5 → a10 k = nI (h k) ∧ h k ≤ 5) (hH : hg_H w h)
    (H : ∀ (a8 a9 : Nat → Int64) (a10 a11 : Nat → Int32) (a12 : Nat → Int64) (a13 : Nat → Int32) (g : Nat → Nat), (∀ k, k ≤ 5 → a10 k = nI (g k) ∧ g k ≤ 5) → hg_M (hg_c C) w g (fun k => (a8 k).toInt) (fun k => (a9 k).toInt) → post (fs, fe, ff, fp, fw, fo, fl, pw, pt, a1, a2, a3, a4, a5, a6, a7, a8, a9, a10, a11, a12, a13)) :
    ∀ (d n q : Nat) (a8 a9 : Nat → Int64) (a11 : Nat → Int32) (a12 : Nat → Int64) (a13 : Nat → Int32) (dep : Nat → Nat), n + d = 6 →
      (∀ k, k ≤ 5 → a11 k = nI (a11 k).toNatClampNeg ∧ (a11 k).toNatClampNeg ≤ 5) →
      hg_P (hg_c C) w h (fun k => (a8 k).toInt) (fun k => (a9 k).toInt) →
      hg_T (hg_c C) n q h (fun k => (a11 k).toNatClampNeg) dep a13 (fun k => (a8 k).toInt) (fun k => (a9 k).toInt) (fun k => (a12 k).toInt) →
      wX_bringIn_48 post (d + 1) (nI q) (nI n) fs fe ff fp fw fo fl pw pt a1 a2 a3 a4 a5 a6 a7 a8 a9 a10 a11 a12 a13 := by
  intro d
  induction d with
  | zero =>
    intro n q a8 a9 a11 a12 a13 dep hn hb hP hT
    have x := hg_cnt_le hT.1 hT.2.1
    have y := hT.2.2.1
    omega
  | succ d ih =>
    intro n q a8 a9 a11 a12 a13 dep hn hb hP hT
    have q5 : q ≤ 5 := hT.1
    refine pk_le 6 n (fun z => absurd z (by omega)) (fun _ => ⟨pk_in q 6 (by omega), ?_⟩)
    rw [nI_clamp (show q < 2 ^ 31 by omega), (hh q q5).1]
    refine pk_eq (h q) 0 (fun z => ?_) (fun z => ⟨pk_in q 6 (by omega), nm_e ?_⟩) rfl rfl (by have t := (hh q q5).2; omega) (by omega)
    · exact ⟨7, hg_84 (a10 := a10) hH.2.1 hb hP hT (fun a10' g hr hM => H a8 a9 a10' a11 a12 a13 g hr hM) 6 0 q a10 h (by omega) hh (hg_G0 hH hP hT z)⟩
    · exact hg_next orc hC hh hb hH hP hT z (fun e a8' a9' a11' a12' dep' hb' hP' hT' => nm_r (nI_1 n) (ih (n + 1) e a8' a9' a11' a12' (upd a13 q 1) dep' (by omega) hb' hP' hT'))
theorem hg_b9 {post : St2 → Prop} {fs fe ff fp fw fo fl pw pt : Int32} {a1 a2 : Nat → Int32} {a3 : Nat → Int64} {a4 a5 a6 : Nat → Int32} {a7 a8 a9 : Nat → Int64} {a10 a11 : Nat → Int32} {a12 : Nat → Int64} {a13 : Nat → Int32}
    (H : ∀ (a11 : Nat → Int32) (a12 : Nat → Int64) (a13 : Nat → Int32), (∀ k, k ≤ 5 → a11 k = 0 ∧ a12 k = 100000000000 ∧ a13 k = 0) → ∃ n, wX_bringIn_48 post n 0 0 fs fe ff fp fw fo fl pw pt a1 a2 a3 a4 a5 a6 a7 a8 a9 a10 a11 a12 a13) :
    ∃ n, wX_bringIn_9 post fs fe ff fp fw fo fl pw pt n 0 a1 a2 a3 a4 a5 a6 a7 a8 a9 a10 a11 a12 a13 := by
  refine pk_loop (σ := (Nat → Int32) × (Nat → Int64) × (Nat → Int32)) (fun n k s => wX_bringIn_9 post fs fe ff fp fw fo fl pw pt n (nI k) a1 a2 a3 a4 a5 a6 a7 a8 a9 a10 s.1 s.2.1 s.2.2)
    (fun k s => ∀ j, j < k → s.1 j = 0 ∧ s.2.1 j = 100000000000 ∧ s.2.2 j = 0) 6 0 (a11, a12, a13) (by omega) (fun j hj => absurd hj (by omega)) ?_ ?_
  · intro n s hI
    refine pk_le 6 6 (fun _ => ?_) (fun z => absurd z (by omega))
    exact H s.1 s.2.1 s.2.2 (fun k k5 => hI k (by omega))
  · intro n k s hk hI hw
    refine pk_le 6 k (fun z => absurd z (by omega)) (fun _ => ⟨pk_in k 6 hk, ?_⟩)
    rw [nI_clamp (show k < 2 ^ 31 by omega)]
    refine nm_e ⟨pk_in k 6 hk, nm_e ⟨pk_in k 6 hk, nm_e (nm_r (nI_1 k) (hw (upd s.1 k 0, vp_updL s.2.1 k 100000000000, upd s.2.2 k 0) (fun j hj => ?_)))⟩⟩
    show upd s.1 k 0 j = 0 ∧ vp_updL s.2.1 k 100000000000 j = 100000000000 ∧ upd s.2.2 k 0 j = 0
    by_cases e : j = k
    · subst e
      exact ⟨pk_us, pk_uLs, pk_us⟩
    · rw [pk_un e, pk_uLn e, pk_un e]
      exact hI j (by omega)
theorem hg_bring {post : St2 → Prop} {fs fe ff fp fw fo fl pw pt : Int32} {a1 a2 : Nat → Int32} {a3 : Nat → Int64} {a4 a5 a6 : Nat → Int32} {a7 a8 a9 : Nat → Int64} {a10 a11 : Nat → Int32} {a12 : Nat → Int64} {a13 : Nat → Int32} {C : Nat → Nat → Nat} {k : Nat} {h : Nat → Nat} (orc : hg_Orc C fs fe ff fp fw fo fl pw pt a1 a2 a3 a4 a5 a6 a7)
    (hC : ∀ i j, i < 5 → j < 5 → C i j ≤ 1000000000) (hk : k < 5)
    (hh : ∀ k, k ≤ 5 → a10 k = nI (h k) ∧ h k ≤ 5)
    (hM : hg_M (hg_c C) k h (fun k => (a8 k).toInt) (fun k => (a9 k).toInt))
    (H : ∀ (a8 a9 : Nat → Int64) (a10 a11 : Nat → Int32) (a12 : Nat → Int64) (a13 : Nat → Int32) (g : Nat → Nat), (∀ k, k ≤ 5 → a10 k = nI (g k) ∧ g k ≤ 5) → hg_M (hg_c C) (k + 1) g (fun k => (a8 k).toInt) (fun k => (a9 k).toInt) → post (fs, fe, ff, fp, fw, fo, fl, pw, pt, a1, a2, a3, a4, a5, a6, a7, a8, a9, a10, a11, a12, a13)) :
    wpX_bringIn post (fs, fe, ff, fp, fw, fo, fl, pw, pt, a1, a2, a3, a4, a5, a6, a7, a8, a9, a10, a11, a12, a13) (nI (k + 1)) := by
  obtain ⟨m1, m2, m3, p1, p2, p3, p4, p5, p6⟩ := hM
  have hr : ∀ j, j ≤ 5 → upd a10 0 (nI (k + 1)) j = nI ((fun j => if j = 0 then k + 1 else h j) j) ∧ (fun j => if j = 0 then k + 1 else h j) j ≤ 5 := by
    intro j j5
    show upd a10 0 (nI (k + 1)) j = nI (if j = 0 then k + 1 else h j) ∧ (if j = 0 then k + 1 else h j) ≤ 5
    by_cases e : j = 0
    · rw [if_pos e, e, pk_us]
      exact ⟨rfl, by omega⟩
    · rw [if_neg e, pk_un e]
      exact hh j j5
  have hp : ∀ j, 1 ≤ j → (fun j => if j = 0 then k + 1 else h j) j = h j := fun j j1 => if_neg (by omega)
  have hp0 : (fun j => if j = 0 then k + 1 else h j) 0 = k + 1 := if_pos rfl
  generalize (fun j => if j = 0 then k + 1 else h j) = h' at hr hp hp0
  have hH : hg_H (k + 1) h' := by
    refine ⟨by omega, by omega, hp0, fun j j1 j5 => ?_, fun j l j5 l5 e z => ?_, fun i i1 ik => ?_⟩
    · rw [hp j j1]
      have t := m1 j j1 j5
      omega
    · by_cases j0 : j = 0
      · by_cases l0 : l = 0
        · omega
        · rw [j0, hp0, hp l (by omega)] at e
          have t := m1 l (by omega) l5
          omega
      · by_cases l0 : l = 0
        · rw [l0, hp0, hp j (by omega)] at e
          have t := m1 j (by omega) j5
          omega
        · rw [hp j (by omega), hp l (by omega)] at e
          rw [hp j (by omega)] at z
          exact m3 j l (by omega) j5 (by omega) l5 e z
    · by_cases e : i = k + 1
      · exact ⟨0, by omega, by rw [hp0, e]⟩
      · obtain ⟨j, j1, j5, je⟩ := m2 i i1 (by omega)
        exact ⟨j, j5, by rw [hp j j1]; exact je⟩
  have hP : hg_P (hg_c C) (k + 1) h' (fun k => (a8 k).toInt) (fun k => (a9 k).toInt) := by
    refine ⟨fun i j i1 ik j1 j5 => ?_, fun j j1 j5 z => ?_, p3, fun i ik i5 => p4 i (by omega) i5, p5, fun j j1 j5 z => ?_⟩
    · by_cases e : i = k + 1
      · have t1 := p4 i (by omega) (by omega)
        have t2 := p5 j j1 j5
        have t3 : (0 : Int) ≤ hg_c C i j := Int.natCast_nonneg _
        omega
      · exact p1 i j i1 (by omega) j1 j5
    · rw [hp j j1] at z
      rw [hp j j1]
      exact p2 j j1 j5 z
    · rw [hp j j1] at z
      exact p6 j j1 j5 z
  unfold wpX_bringIn
  refine nm_e (hg_b9 (fun a11 a12 a13 hz => ⟨7, ?_⟩))
  refine hg_48 orc hC hr hH H 6 0 0 a8 a9 a11 a12 a13 (fun _ => 0) (by omega) (fun j j5 => ?_) hP ?_
  · rw [(hz j j5).1]
    exact ⟨by decide, by decide⟩
  · have c0 : hg_cnt a13 = 0 := by
      unfold hg_cnt
      rw [(hz 0 (by omega)).2.2, (hz 1 (by omega)).2.2, (hz 2 (by omega)).2.2, (hz 3 (by omega)).2.2, (hz 4 (by omega)).2.2, (hz 5 (by omega)).2.2]
      rfl
    refine ⟨by omega, (hz 0 (by omega)).2.2, c0, rfl, fun j j5 jn => absurd (hz j j5).2.2 jn, fun j j1 j5 _ => ⟨fun t t5 tn => absurd (hz t t5).2.2 tn, Or.inl ⟨?_, rfl⟩⟩, fun j j1 j5 jn => ?_⟩
    · show (a12 j).toInt = 100000000000
      rw [(hz j j5).2.1]
      decide
    · rcases jn with x | x
      · exact absurd (hz j j5).2.2 x
      · omega
def hg_ps (C : Nat → Nat → Nat) (h : Nat → Nat) : Nat → Nat
  | 0 => 0
  | m + 1 => hg_ps C h m + C (h (m + 1) - 1) m
def hg_Opt (C : Nat → Nat → Nat) (v : Nat) : Prop :=
  (∃ g, hg_pm g ∧ (v : Int) = hg_s5 (fun i => (C i (g i) : Int))) ∧ ∀ g, hg_pm g → (v : Int) ≤ hg_s5 (fun i => (C i (g i) : Int))
theorem hg_57 {post : Int64 → St2 → Prop} {fs fe ff fp fw fo fl pw pt : Int32} {a1 a2 : Nat → Int32} {a3 : Nat → Int64} {a4 a5 a6 : Nat → Int32} {a7 a8 a9 : Nat → Int64} {a10 a11 : Nat → Int32} {a12 : Nat → Int64} {a13 : Nat → Int32} {C : Nat → Nat → Nat} {h : Nat → Nat} (orc : hg_Orc C fs fe ff fp fw fo fl pw pt a1 a2 a3 a4 a5 a6 a7)
    (hh : ∀ k, k ≤ 5 → a10 k = nI (h k) ∧ h k ≤ 5) (h1 : ∀ j, j < 5 → 1 ≤ h (j + 1))
    (H : post (lN (hg_ps C h 5)) (fs, fe, ff, fp, fw, fo, fl, pw, pt, a1, a2, a3, a4, a5, a6, a7, a8, a9, a10, a11, a12, a13)) : ∃ n, wX_solve_57 post fs fe ff fp fw fo fl pw pt a1 a2 a3 a4 a5 a6 a7 a8 a9 a10 a11 a12 a13 n 0 1 := by
  refine pk_loop (σ := Int64) (fun n k s => wX_solve_57 post fs fe ff fp fw fo fl pw pt a1 a2 a3 a4 a5 a6 a7 a8 a9 a10 a11 a12 a13 n s (nI k)) (fun k s => 1 ≤ k ∧ s = lN (hg_ps C h (k - 1))) 6 1 0 (by omega) ⟨by omega, rfl⟩ ?_ ?_
  · intro n s hI
    refine pk_lt 5 6 (fun _ => ?_) (fun z => absurd z (by omega))
    rw [hI.2]
    exact H
  · intro n k s hk hI hw
    obtain ⟨k1, es⟩ := hI
    have h1' := h1 (k - 1) (by omega)
    rw [show k - 1 + 1 = k by omega] at h1'
    have hk5 := (hh k (by omega)).2
    refine pk_lt 5 k (fun z => absurd z (by omega)) (fun _ => ⟨pk_in k 6 hk, ?_⟩)
    rw [nI_clamp (show k < 2 ^ 31 by omega), (hh k (by omega)).1, hg_m1 h1', hg_m1 k1]
    refine orc (h k - 1) (k - 1) (by omega) (by omega) _ a8 a9 a10 a11 a12 a13 ?_
    refine nm_r (show s + lN (C (h k - 1) (k - 1)) = lN (hg_ps C h k) from ?_) (nm_r (nI_1 k) (hw _ ⟨by omega, rfl⟩))
    rw [es, lN_add]
    have e : hg_ps C h (k - 1 + 1) = hg_ps C h (k - 1) + C (h (k - 1 + 1) - 1) (k - 1) := rfl
    rw [show k - 1 + 1 = k by omega] at e
    rw [e]
theorem hg_37 {post : Int64 → St2 → Prop} {fs fe ff fp fw fo fl pw pt : Int32} {a1 a2 : Nat → Int32} {a3 : Nat → Int64} {a4 a5 a6 : Nat → Int32} {a7 : Nat → Int64} {C : Nat → Nat → Nat} (orc : hg_Orc C fs fe ff fp fw fo fl pw pt a1 a2 a3 a4 a5 a6 a7) (hC : ∀ i j, i < 5 → j < 5 → C i j ≤ 1000000000)
    (H : ∀ (v : Nat) (a8 a9 : Nat → Int64) (a10 a11 : Nat → Int32) (a12 : Nat → Int64) (a13 : Nat → Int32), hg_Opt C v → post (lN v) (fs, fe, ff, fp, fw, fo, fl, pw, pt, a1, a2, a3, a4, a5, a6, a7, a8, a9, a10, a11, a12, a13)) :
    ∀ (d k : Nat) (a8 a9 : Nat → Int64) (a10 a11 : Nat → Int32) (a12 : Nat → Int64) (a13 : Nat → Int32) (h : Nat → Nat), k + d = 5 → (∀ k, k ≤ 5 → a10 k = nI (h k) ∧ h k ≤ 5) → hg_M (hg_c C) k h (fun k => (a8 k).toInt) (fun k => (a9 k).toInt) →
      wX_solve_37 post (d + 1) (nI (k + 1)) fs fe ff fp fw fo fl pw pt a1 a2 a3 a4 a5 a6 a7 a8 a9 a10 a11 a12 a13 := by
  intro d
  induction d with
  | zero =>
    intro k a8 a9 a10 a11 a12 a13 h hk hh hM
    have k5 : k = 5 := by omega
    subst k5
    obtain ⟨f1, g, f2, f3, f4⟩ := hg_fin hM
    have e : (hg_ps C h 5 : Int) = hg_s5 (fun j => (C (h (j + 1) - 1) j : Int)) := by
      unfold hg_s5
      show ((0 + C (h (0 + 1) - 1) 0 + C (h (1 + 1) - 1) 1 + C (h (2 + 1) - 1) 2 + C (h (3 + 1) - 1) 3 + C (h (4 + 1) - 1) 4 : Nat) : Int) = _
      dsimp only
      omega
    refine pk_lt 5 6 (fun _ => ?_) (fun z => absurd z (by omega))
    exact hg_57 orc hh f1 (H _ a8 a9 a10 a11 a12 a13 ⟨⟨g, f2, by rw [e]; exact f3⟩, fun g' hg' => by rw [e]; exact f4 g' hg'⟩)
  | succ d ih =>
    intro k a8 a9 a10 a11 a12 a13 h hk hh hM
    refine pk_lt 5 (k + 1) (fun z => absurd z (by omega)) (fun _ => ?_)
    exact hg_bring orc hC (by omega) hh hM (fun a8 a9 a10 a11 a12 a13 g hg hM' => nm_r (nI_1 (k + 1)) (ih (k + 1) a8 a9 a10 a11 a12 a13 g (by omega) hg hM'))
theorem hg_solve {post : Int64 → St2 → Prop} {fs fe ff fp fw fo fl pw pt : Int32} {a1 a2 : Nat → Int32} {a3 : Nat → Int64} {a4 a5 a6 : Nat → Int32} {a7 a8 a9 : Nat → Int64} {a10 a11 : Nat → Int32} {a12 : Nat → Int64} {a13 : Nat → Int32} {C : Nat → Nat → Nat} (orc : hg_Orc C fs fe ff fp fw fo fl pw pt a1 a2 a3 a4 a5 a6 a7) (hC : ∀ i j, i < 5 → j < 5 → C i j ≤ 1000000000)
    (H : ∀ (v : Nat) (a8 a9 : Nat → Int64) (a10 a11 : Nat → Int32) (a12 : Nat → Int64) (a13 : Nat → Int32), hg_Opt C v → post (lN v) (fs, fe, ff, fp, fw, fo, fl, pw, pt, a1, a2, a3, a4, a5, a6, a7, a8, a9, a10, a11, a12, a13)) : wpX_solve post (fs, fe, ff, fp, fw, fo, fl, pw, pt, a1, a2, a3, a4, a5, a6, a7, a8, a9, a10, a11, a12, a13) := by
  unfold wpX_solve
  refine pk_loop (σ := (Nat → Int64) × (Nat → Int64) × (Nat → Int32)) (fun n k s => wX_solve_2 post fs fe ff fp fw fo fl pw pt n (nI k) a1 a2 a3 a4 a5 a6 a7 s.1 s.2.1 s.2.2 a11 a12 a13)
    (fun k s => ∀ j, j < k → s.1 j = 0 ∧ s.2.1 j = 0 ∧ s.2.2 j = 0) 6 0 (a8, a9, a10) (by omega) (fun j hj => absurd hj (by omega)) ?_ ?_
  · intro n s hI
    refine pk_le 6 6 (fun _ => ⟨6, ?_⟩) (fun z => absurd z (by omega))
    refine hg_37 orc hC H 5 0 s.1 s.2.1 s.2.2 a11 a12 a13 (fun _ => 0) (by omega) (fun k k5 => ⟨(hI k (by omega)).2.2, by omega⟩) ?_
    have zU : ∀ i, i ≤ 5 → (s.1 i).toInt = 0 := fun i i5 => by rw [(hI i (by omega)).1]; rfl
    have zV : ∀ i, i ≤ 5 → (s.2.1 i).toInt = 0 := fun i i5 => by rw [(hI i (by omega)).2.1]; rfl
    refine ⟨fun j _ _ => Nat.le_refl 0, fun i i1 i0 => absurd i0 (by omega), fun j l _ _ _ _ _ z => absurd rfl z, fun i j i1 i0 => absurd i0 (by omega), fun j _ _ z => absurd rfl z, fun i i1 i5 => ?_, fun i i1 i5 => zU i i5, fun j j1 j5 => ?_, fun j j1 j5 _ => zV j j5⟩
    · show 0 ≤ (s.1 i).toInt
      rw [zU i i5]; omega
    · show (s.2.1 j).toInt ≤ 0
      rw [zV j j5]; omega
  · intro n k s hk hI hw
    refine pk_le 6 k (fun z => absurd z (by omega)) (fun _ => ⟨pk_in k 6 hk, ?_⟩)
    rw [nI_clamp (show k < 2 ^ 31 by omega)]
    refine nm_e ⟨pk_in k 6 hk, nm_e ⟨pk_in k 6 hk, nm_e (nm_r (nI_1 k) (hw (vp_updL s.1 k 0, vp_updL s.2.1 k 0, upd s.2.2 k 0) (fun j hj => ?_)))⟩⟩
    show vp_updL s.1 k 0 j = 0 ∧ vp_updL s.2.1 k 0 j = 0 ∧ upd s.2.2 k 0 j = 0
    by_cases e : j = k
    · subst e
      exact ⟨pk_uLs, pk_uLs, pk_us⟩
    · rw [pk_un e, pk_uLn e, pk_uLn e]
      exact hI j (by omega)
end
section
/-! weight, digit, valueOf -/
def my_dg (n i : Nat) : Nat := n / 5 ^ (4 - i) % 5
theorem my_dg_lt (n i : Nat) : my_dg n i < 5 := Nat.mod_lt _ (by omega)
theorem my_pw (i : Nat) : 1 ≤ 5 ^ (4 - i) ∧ 5 ^ (4 - i) ≤ 625 := by
  constructor
  · exact Nat.pow_pos (by omega)
  · exact Nat.pow_le_pow_right (show 0 < 5 by omega) (show 4 - i ≤ 4 by omega)
theorem my_weight {post : Int32 → Prop} {i : Nat} (hi : i < 5) (H : post (nI (5 ^ (4 - i)))) : wpX_weight post () (nI i) := by
  unfold wpX_weight
  refine pk_loop (σ := Int32) (fun n k s => wX_weight_4 post n s (nI k)) (fun k s => i ≤ k ∧ s = nI (5 ^ (k - i))) 4 i 1 (by omega) ⟨Nat.le_refl i, by rw [Nat.sub_self]; rfl⟩ ?_ ?_
  · intro n s hI
    refine pk_le 4 4 (fun _ => ?_) (fun z => absurd z (by omega))
    rw [hI.2]
    exact H
  · intro n k s hk hI hw
    obtain ⟨ik, es⟩ := hI
    refine pk_le 4 k (fun z => absurd z (by omega)) (fun _ => nm_e (nm_r (nI_1 k) (hw _ ⟨by omega, ?_⟩)))
    rw [es, show k + 1 - i = k - i + 1 by omega, Nat.pow_succ, ← pk_mul]
    rfl
theorem my_digit {post : Int32 → Prop} {n i : Nat} (hn : n < 3125) (hi : i < 5) (H : post (nI (my_dg n i))) : wpX_digit post () (nI n) (nI i) := by
  unfold wpX_digit
  have w := my_pw i
  refine my_weight hi ⟨nI_ne0 (by omega) (by omega), by decide, ?_⟩
  rw [pk_div (by omega) (by omega) (by omega)]
  have t : n / 5 ^ (4 - i) < 2 ^ 31 := Nat.lt_of_le_of_lt (Nat.div_le_self _ _) (by omega)
  have e : nI (n / 5 ^ (4 - i)) - nI (n / 5 ^ (4 - i)) / nI 5 * nI 5 = nI (n / 5 ^ (4 - i) % 5) := pk_rem t (by omega) (by omega)
  have e' : nI (n / 5 ^ (4 - i)) - nI (n / 5 ^ (4 - i)) / 5 * 5 = nI (n / 5 ^ (4 - i) % 5) := e
  rw [e']
  exact H
theorem my_bit : ∀ m, m < 32 → ∀ j, j < 5 → (((((nI m).toUInt32 >>> ((nI j).toUInt32 &&& Int32.toUInt32 31)).toInt32) &&& 1) = 0 ↔ m.testBit j = false) := by decide +kernel
theorem my_or : ∀ m, m < 32 → ∀ o, o < 5 → (nI m ||| ((1 : Int32) <<< (nI o &&& 31)) = nI (m ||| 2 ^ o) ∧ m ||| 2 ^ o < 32) := by decide +kernel
theorem my_orb : ∀ m, m < 32 → ∀ o, o < 5 → ∀ j, j < 5 → (m ||| 2 ^ o).testBit j = (m.testBit j || decide (o = j)) := by decide +kernel
def my_bi : Bool → Int32
  | true => 1
  | false => 0
def my_op (br : Nat → Bool) (f m p : Nat) (pw pt : Int32) (i j : Nat) : Bool :=
  (!br (5 * i + j) && (if i < f then decide (my_dg p i = j) else if i = f then !m.testBit j else true)) && (if nI i = pw then decide (nI j = pt) else true)
def my_V (pr : Nat → Nat) (i j : Nat) (b : Bool) : Nat := if b = true then 3125 * pr (5 * i + j) + j * 5 ^ (4 - i) else 1000000000
def my_C (pr : Nat → Nat) (br : Nat → Bool) (f m p : Nat) (pw pt : Int32) (i j : Nat) : Nat := my_V pr i j (my_op br f m p pw pt i j)
/-- what the two tables hold -/
def my_X (pr : Nat → Nat) (br : Nat → Bool) (a1 a2 : Nat → Int32) : Prop :=
  (∀ k, k < 25 → a1 k = nI (pr k) ∧ pr k < 100) ∧ (∀ k, k < 25 → (a2 k = 0 ↔ br k = false))
theorem my_ix (i j : Nat) : 5 * nI i + nI j = nI (5 * i + j) := by
  rw [← nI_add, ← pk_mul]
  rfl
theorem my_107 {post : Int64 → Prop} {fs fe ff fp fw fo fl pw pt : Int32} {a1 a2 : Nat → Int32} {a3 : Nat → Int64} {a4 a5 a6 : Nat → Int32} {a7 a8 a9 : Nat → Int64} {a10 a11 : Nat → Int32} {a12 : Nat → Int64} {a13 : Nat → Int32} {pr : Nat → Nat} {br : Nat → Bool} {i j : Nat} (b : Bool) (hX : my_X pr br a1 a2) (hi : i < 5) (hj : j < 5)
    (H : post (lN (my_V pr i j b))) : wX_valueOf_107 post (nI i) (nI j) (my_bi b) fs fe ff fp fw fo fl pw pt a1 a2 a3 a4 a5 a6 a7 a8 a9 a10 a11 a12 a13 := by
  unfold wX_valueOf_107
  cases b with
  | false => exact br_t rfl H
  | true =>
    obtain ⟨x1, x2⟩ := hX.1 (5 * i + j) (by omega)
    have w := my_pw i
    have w2 : j * 5 ^ (4 - i) ≤ 4 * 625 := Nat.mul_le_mul (by omega) w.2
    rw [my_ix]
    refine br_f (by decide) ⟨pk_in (5 * i + j) 25 (by omega), ?_⟩
    rw [nI_clamp (show 5 * i + j < 2 ^ 31 by omega)]
    refine my_weight hi ?_
    rw [x1, pk_mul, nI_l (show pr (5 * i + j) < 2 ^ 31 by omega), nI_l (show j * 5 ^ (4 - i) < 2 ^ 31 by omega)]
    have e : (3125 : Int64) * lN (pr (5 * i + j)) = lN (3125 * pr (5 * i + j)) := lN_mul 3125 _
    rw [e, lN_add]
    exact H
theorem my_81 {post : Int64 → Prop} {fs fe ff fp fw fo fl pw pt : Int32} {a1 a2 : Nat → Int32} {a3 : Nat → Int64} {a4 a5 a6 : Nat → Int32} {a7 a8 a9 : Nat → Int64} {a10 a11 : Nat → Int32} {a12 : Nat → Int64} {a13 : Nat → Int32} {pr : Nat → Nat} {br : Nat → Bool} {i j : Nat} (b : Bool) (hX : my_X pr br a1 a2) (hi : i < 5) (hj : j < 5)
    (H : post (lN (my_V pr i j (b && (if nI i = pw then decide (nI j = pt) else true))))) : wX_valueOf_81 post (nI i) (nI j) (my_bi b) fs fe ff fp fw fo fl pw pt a1 a2 a3 a4 a5 a6 a7 a8 a9 a10 a11 a12 a13 := by
  unfold wX_valueOf_81 wX_valueOf_105 wX_valueOf_106
  by_cases e : nI i = pw
  · rw [if_pos e] at H
    refine br_t e ?_
    cases b with
    | false => exact br_t rfl (my_107 false hX hi hj H)
    | true =>
      refine br_f (by decide) ?_
      by_cases e2 : nI j = pt
      · rw [decide_eq_true e2] at H
        exact br_t e2 (my_107 true hX hi hj H)
      · rw [decide_eq_false e2] at H
        exact br_f e2 (my_107 false hX hi hj H)
  · rw [if_neg e, Bool.and_true] at H
    exact br_f e (my_107 b hX hi hj H)
theorem my_18 {post : Int64 → Prop} {fs fe ff fp pw pt : Int32} {a1 a2 : Nat → Int32} {a3 : Nat → Int64} {a4 a5 a6 : Nat → Int32} {a7 a8 a9 : Nat → Int64} {a10 a11 : Nat → Int32} {a12 : Nat → Int64} {a13 : Nat → Int32} {pr : Nat → Nat} {br : Nat → Bool} {f m p i j : Nat} (b : Bool) (hX : my_X pr br a1 a2) (hf : f ≤ 5) (hm : m < 32) (hp : p < 3125) (hi : i < 5) (hj : j < 5)
    (H : post (lN (my_V pr i j ((b && (if i < f then decide (my_dg p i = j) else if i = f then !m.testBit j else true)) && (if nI i = pw then decide (nI j = pt) else true))))) :
    wX_valueOf_18 post (nI i) (nI j) (my_bi b) fs fe ff fp (nI f) (nI m) (nI p) pw pt a1 a2 a3 a4 a5 a6 a7 a8 a9 a10 a11 a12 a13 := by
  unfold wX_valueOf_18 wX_valueOf_79 wX_valueOf_47 wX_valueOf_48 wX_valueOf_80
  refine pk_le f i (fun z => ?_) (fun z => ?_)
  · rw [if_neg (by omega)] at H
    refine pk_eq i f (fun e => ?_) (fun e => ?_)
    · rw [if_pos e] at H
      cases b with
      | false => exact br_t rfl (my_81 false hX hi hj H)
      | true =>
        refine br_f (by decide) (ek_if (my_bit m hm j hj) (fun g => ?_) (fun g => ?_))
        · rw [g] at H
          exact my_81 true hX hi hj H
        · have g' : m.testBit j = true := by
            cases hh : m.testBit j with
            | true => rfl
            | false => exact absurd hh g
          rw [g'] at H
          exact my_81 false hX hi hj H
    · rw [if_neg e, Bool.and_true] at H
      exact my_81 b hX hi hj H
  · rw [if_pos z] at H
    cases b with
    | false => exact br_t rfl (my_81 false hX hi hj H)
    | true =>
      refine br_f (by decide) (my_digit hp hi ?_)
      have d5 := my_dg_lt p i
      refine pk_eq (my_dg p i) j (fun e => ?_) (fun e => ?_)
      · rw [decide_eq_true e] at H
        exact my_81 true hX hi hj H
      · rw [decide_eq_false e] at H
        exact my_81 false hX hi hj H
theorem my_orc {fs fe ff fp pw pt : Int32} {a1 a2 : Nat → Int32} {a3 : Nat → Int64} {a4 a5 a6 : Nat → Int32} {a7 : Nat → Int64} {pr : Nat → Nat} {br : Nat → Bool} {f m p : Nat} (hX : my_X pr br a1 a2) (hf : f ≤ 5) (hm : m < 32) (hp : p < 3125) :
    hg_Orc (my_C pr br f m p pw pt) fs fe ff fp (nI f) (nI m) (nI p) pw pt a1 a2 a3 a4 a5 a6 a7 := by
  intro i j hi hj post a8 a9 a10 a11 a12 a13 H
  unfold wpX_valueOf
  have H' : post (lN (my_V pr i j ((!br (5 * i + j) && (if i < f then decide (my_dg p i = j) else if i = f then !m.testBit j else true)) && (if nI i = pw then decide (nI j = pt) else true)))) := H
  rw [my_ix]
  refine And.intro (pk_in (5 * i + j) 25 (by omega)) ?_
  rw [nI_clamp (show 5 * i + j < 2 ^ 31 by omega)]
  refine ek_if (hX.2 (5 * i + j) (by omega)) (fun g => ?_) (fun g => ?_)
  · rw [g] at H'
    exact my_18 true hX hf hm hp hi hj H'
  · have g' : br (5 * i + j) = true := by
      cases hh : br (5 * i + j) with
      | true => rfl
      | false => exact absurd hh g
    rw [g'] at H'
    exact my_18 false hX hf hm hp hi hj H'
theorem my_Cle {pr : Nat → Nat} {br : Nat → Bool} {f m p : Nat} {pw pt : Int32} {a1 a2 : Nat → Int32} (hX : my_X pr br a1 a2) : ∀ i j, i < 5 → j < 5 → my_C pr br f m p pw pt i j ≤ 1000000000 := by
  intro i j hi hj
  have x2 := (hX.1 (5 * i + j) (by omega)).2
  have w := my_pw i
  have w2 : j * 5 ^ (4 - i) ≤ 4 * 625 := Nat.mul_le_mul (by omega) w.2
  unfold my_C my_V
  by_cases e : my_op br f m p pw pt i j = true
  · rw [if_pos e]; omega
  · rw [if_neg e]; omega
end
section
/-! plans as numbers, the cheapest plan of a part, and the ranking's picture -/
def my_num (g : Nat → Nat) : Nat := g 0 * 625 + g 1 * 125 + g 2 * 25 + g 3 * 5 + g 4
theorem my_five {i : Nat} (h : i < 5) : i = 0 ∨ i = 1 ∨ i = 2 ∨ i = 3 ∨ i = 4 := by omega
theorem my_d0 (n : Nat) : my_dg n 0 = n / 625 % 5 := rfl
theorem my_d1 (n : Nat) : my_dg n 1 = n / 125 % 5 := rfl
theorem my_d2 (n : Nat) : my_dg n 2 = n / 25 % 5 := rfl
theorem my_d3 (n : Nat) : my_dg n 3 = n / 5 % 5 := rfl
theorem my_d4 (n : Nat) : my_dg n 4 = n % 5 := by
  show n / 1 % 5 = n % 5
  rw [Nat.div_one]
theorem my_dgnum {g : Nat → Nat} (hg : ∀ i, i < 5 → g i < 5) {i : Nat} (hi : i < 5) : my_dg (my_num g) i = g i := by
  have h0 := hg 0 (by omega)
  have h1 := hg 1 (by omega)
  have h2 := hg 2 (by omega)
  have h3 := hg 3 (by omega)
  have h4 := hg 4 (by omega)
  unfold my_num
  rcases my_five hi with e | e | e | e | e <;> subst e
  · rw [my_d0]; omega
  · rw [my_d1]; omega
  · rw [my_d2]; omega
  · rw [my_d3]; omega
  · rw [my_d4]; omega
theorem my_numlt {g : Nat → Nat} (hg : ∀ i, i < 5 → g i < 5) : my_num g < 3125 := by
  have h0 := hg 0 (by omega)
  have h1 := hg 1 (by omega)
  have h2 := hg 2 (by omega)
  have h3 := hg 3 (by omega)
  have h4 := hg 4 (by omega)
  unfold my_num
  omega
theorem my_numdg {q : Nat} (hq : q < 3125) : my_dg q 0 * 625 + my_dg q 1 * 125 + my_dg q 2 * 25 + my_dg q 3 * 5 + my_dg q 4 = q := by
  rw [my_d0, my_d1, my_d2, my_d3, my_d4]
  omega
theorem my_ext {q r : Nat} (hq : q < 3125) (hr : r < 3125) (h : ∀ i, i < 5 → my_dg q i = my_dg r i) : q = r := by
  have a := my_numdg hq
  have b := my_numdg hr
  rw [h 0 (by omega), h 1 (by omega), h 2 (by omega), h 3 (by omega), h 4 (by omega)] at a
  omega
def my_sum (f : Nat → Nat) : Nat := f 0 + f 1 + f 2 + f 3 + f 4
def my_val (pr : Nat → Nat) (q : Nat) : Nat := 3125 * my_sum (fun i => pr (5 * i + my_dg q i)) + q
/-- q is a plan without barred pairs -/
def my_OP (br : Nat → Bool) (q : Nat) : Prop := q < 3125 ∧ hg_pm (my_dg q) ∧ ∀ i, i < 5 → br (5 * i + my_dg q i) = false
/-- q has p's tasks for the workers below f, and for worker f none of the set m -/
def my_mem (f m p q : Nat) : Prop := (∀ i, i < f → my_dg q i = my_dg p i) ∧ m.testBit (my_dg q f) = false
def my_pin (pw pt : Int32) (q : Nat) : Prop := ∀ i, i < 5 → nI i = pw → nI (my_dg q i) = pt
theorem my_vlt {pr : Nat → Nat} (hpr : ∀ k, k < 25 → pr k < 100) {q : Nat} (hq : q < 3125) : my_val pr q < 1000000000 := by
  unfold my_val my_sum
  dsimp only
  have d0 := my_dg_lt q 0
  have d1 := my_dg_lt q 1
  have d2 := my_dg_lt q 2
  have d3 := my_dg_lt q 3
  have d4 := my_dg_lt q 4
  have h0 := hpr (5 * 0 + my_dg q 0) (by omega)
  have h1 := hpr (5 * 1 + my_dg q 1) (by omega)
  have h2 := hpr (5 * 2 + my_dg q 2) (by omega)
  have h3 := hpr (5 * 3 + my_dg q 3) (by omega)
  have h4 := hpr (5 * 4 + my_dg q 4) (by omega)
  omega
theorem my_op_iff {br : Nat → Bool} {f m p : Nat} {pw pt : Int32} {i j : Nat} :
    my_op br f m p pw pt i j = true ↔ br (5 * i + j) = false ∧ (i < f → j = my_dg p i) ∧ (i = f → m.testBit j = false) ∧ (nI i = pw → nI j = pt) := by
  unfold my_op
  rw [Bool.and_eq_true, Bool.and_eq_true, Bool.not_eq_true']
  by_cases e : nI i = pw
  · rw [if_pos e]
    by_cases g : i < f
    · rw [if_pos g]
      constructor
      · rintro ⟨⟨x1, x2⟩, x3⟩
        exact ⟨x1, fun _ => (of_decide_eq_true x2).symm, fun y => by omega, fun _ => of_decide_eq_true x3⟩
      · rintro ⟨x1, x2, x3, x4⟩
        exact ⟨⟨x1, decide_eq_true (x2 g).symm⟩, decide_eq_true (x4 e)⟩
    · rw [if_neg g]
      by_cases k : i = f
      · rw [if_pos k, Bool.not_eq_true']
        constructor
        · rintro ⟨⟨x1, x2⟩, x3⟩
          exact ⟨x1, fun y => absurd y g, fun _ => x2, fun _ => of_decide_eq_true x3⟩
        · rintro ⟨x1, x2, x3, x4⟩
          exact ⟨⟨x1, x3 k⟩, decide_eq_true (x4 e)⟩
      · rw [if_neg k]
        constructor
        · rintro ⟨⟨x1, x2⟩, x3⟩
          exact ⟨x1, fun y => absurd y g, fun y => absurd y k, fun _ => of_decide_eq_true x3⟩
        · rintro ⟨x1, x2, x3, x4⟩
          exact ⟨⟨x1, rfl⟩, decide_eq_true (x4 e)⟩
  · rw [if_neg e]
    by_cases g : i < f
    · rw [if_pos g]
      constructor
      · rintro ⟨⟨x1, x2⟩, x3⟩
        exact ⟨x1, fun _ => (of_decide_eq_true x2).symm, fun y => by omega, fun y => absurd y e⟩
      · rintro ⟨x1, x2, x3, x4⟩
        exact ⟨⟨x1, decide_eq_true (x2 g).symm⟩, rfl⟩
    · rw [if_neg g]
      by_cases k : i = f
      · rw [if_pos k, Bool.not_eq_true']
        constructor
        · rintro ⟨⟨x1, x2⟩, x3⟩
          exact ⟨x1, fun y => absurd y g, fun _ => x2, fun y => absurd y e⟩
        · rintro ⟨x1, x2, x3, x4⟩
          exact ⟨⟨x1, x3 k⟩, rfl⟩
      · rw [if_neg k]
        constructor
        · rintro ⟨⟨x1, x2⟩, x3⟩
          exact ⟨x1, fun y => absurd y g, fun y => absurd y k, fun y => absurd y e⟩
        · rintro ⟨x1, x2, x3, x4⟩
          exact ⟨⟨x1, rfl⟩, rfl⟩
/-- the sum over an allowed plan is its value -/
theorem my_sumV {pr : Nat → Nat} {br : Nat → Bool} {f m p : Nat} {pw pt : Int32} {q : Nat} (hq : q < 3125) (h : ∀ i, i < 5 → my_op br f m p pw pt i (my_dg q i) = true) :
    hg_s5 (fun i => (my_C pr br f m p pw pt i (my_dg q i) : Int)) = (my_val pr q : Int) := by
  have e : ∀ i, i < 5 → my_C pr br f m p pw pt i (my_dg q i) = 3125 * pr (5 * i + my_dg q i) + my_dg q i * 5 ^ (4 - i) := fun i hi => if_pos (h i hi)
  unfold hg_s5
  dsimp only
  rw [e 0 (by omega), e 1 (by omega), e 2 (by omega), e 3 (by omega), e 4 (by omega)]
  have n := my_numdg hq
  unfold my_val my_sum
  dsimp only
  have p0 : 5 ^ (4 - 0) = 625 := rfl
  have p1 : 5 ^ (4 - 1) = 125 := rfl
  have p2 : 5 ^ (4 - 2) = 25 := rfl
  have p3 : 5 ^ (4 - 3) = 5 := rfl
  have p4 : 5 ^ (4 - 4) = 1 := rfl
  rw [p0, p1, p2, p3, p4]
  generalize pr (5 * 0 + my_dg q 0) = r0
  generalize pr (5 * 1 + my_dg q 1) = r1
  generalize pr (5 * 2 + my_dg q 2) = r2
  generalize pr (5 * 3 + my_dg q 3) = r3
  generalize pr (5 * 4 + my_dg q 4) = r4
  omega
theorem my_opt {pr : Nat → Nat} {br : Nat → Bool} {f m p v : Nat} {pw pt : Int32} (hpr : ∀ k, k < 25 → pr k < 100) (hf : f < 5) (hv : hg_Opt (my_C pr br f m p pw pt) v) :
    (1000000000 ≤ v ∧ ∀ q, my_OP br q → my_mem f m p q → ¬ my_pin pw pt q) ∨
    (∃ q, my_OP br q ∧ my_mem f m p q ∧ my_pin pw pt q ∧ v = my_val pr q ∧ v < 1000000000 ∧ ∀ r, my_OP br r → my_mem f m p r → my_pin pw pt r → my_val pr q ≤ my_val pr r) := by
  obtain ⟨⟨g, hg, ev⟩, hmin⟩ := hv
  have up : ∀ r, my_OP br r → my_mem f m p r → my_pin pw pt r → v ≤ my_val pr r := by
    intro r ⟨r1, r2, r3⟩ ⟨r4, r5⟩ r6
    have t := hmin (my_dg r) r2
    rw [my_sumV r1 (fun i hi => my_op_iff.mpr ⟨r3 i hi, fun y => r4 i y, fun y => by rw [y]; exact r5, fun y => r6 i hi y⟩)] at t
    omega
  by_cases all : ∀ i, i < 5 → my_op br f m p pw pt i (g i) = true
  · have dn : ∀ i, i < 5 → my_dg (my_num g) i = g i := fun i hi => my_dgnum hg.1 hi
    have nl := my_numlt hg.1
    have al : ∀ i, i < 5 → my_op br f m p pw pt i (my_dg (my_num g) i) = true := fun i hi => by rw [dn i hi]; exact all i hi
    have al' := fun i hi => my_op_iff.mp (al i hi)
    have e : v = my_val pr (my_num g) := by
      have t := my_sumV (pr := pr) nl al
      have t2 : hg_s5 (fun i => (my_C pr br f m p pw pt i (my_dg (my_num g) i) : Int)) = hg_s5 (fun i => (my_C pr br f m p pw pt i (g i) : Int)) := hg_s5_congr (fun i hi => by
        show (my_C pr br f m p pw pt i (my_dg (my_num g) i) : Int) = (my_C pr br f m p pw pt i (g i) : Int)
        rw [dn i hi])
      rw [t2, ← ev] at t
      omega
    refine Or.inr ⟨my_num g, ⟨nl, ⟨fun i _ => my_dg_lt _ _, fun i l hi hl ee => ?_⟩, fun i hi => (al' i hi).1⟩, ⟨fun i hi => (al' i (by omega)).2.1 hi, (al' f hf).2.2.1 rfl⟩, fun i hi => (al' i hi).2.2.2, e, ?_, fun r r1 r2 r3 => by rw [← e]; exact up r r1 r2 r3⟩
    · rw [dn i hi, dn l hl] at ee
      exact hg.2 i l hi hl ee
    · rw [e]
      exact my_vlt hpr nl
  · have ex : ∃ i, i < 5 ∧ ¬ my_op br f m p pw pt i (g i) = true := by
      apply Classical.byContradiction
      intro hn
      apply all
      intro i hi
      apply Classical.byContradiction
      intro h2
      exact hn ⟨i, hi, h2⟩
    obtain ⟨i, hi, hn⟩ := ex
    have e1 : my_C pr br f m p pw pt i (g i) = 1000000000 := if_neg hn
    have big : 1000000000 ≤ v := by
      unfold hg_s5 at ev
      dsimp only at ev
      rcases my_five hi with e | e | e | e | e <;> subst e <;> rw [e1] at ev <;> omega
    refine Or.inl ⟨big, fun q q1 q2 q3 => ?_⟩
    have t := up q q1 q2 q3
    have t2 := my_vlt hpr q1.1
    omega
/-- the ranking: F plans are found, P parts stand, R is not in a part yet -/
def my_MI (br : Nat → Bool) (pr S : Nat → Nat) (N F P : Nat) (R : Nat → Prop) (fx wo pl : Nat → Nat) (a3 : Nat → Int64) (a4 a5 a6 : Nat → Int32) (a7 : Nat → Int64) : Prop :=
  (∀ i, i < F → a3 i = lN (my_val pr (S i))) ∧
  (∀ k, k < P → ¬ a4 k = 0 → a5 k = nI (fx k) ∧ a6 k = nI (wo k) ∧ a7 k = lN (my_val pr (pl k)) ∧ fx k < 5 ∧ wo k < 32 ∧ my_OP br (pl k) ∧ my_mem (fx k) (wo k) (pl k) (pl k) ∧ ∀ q, my_OP br q → my_mem (fx k) (wo k) (pl k) q → my_val pr (pl k) ≤ my_val pr q) ∧
  (∀ q, my_OP br q → R q → ∃ i, F ≤ i ∧ i < N ∧ q = S i) ∧
  (∀ k q, k < P → ¬ a4 k = 0 → my_OP br q → my_mem (fx k) (wo k) (pl k) q → (∃ i, F ≤ i ∧ i < N ∧ q = S i) ∧ ¬ R q) ∧
  (∀ i, F ≤ i → i < N → R (S i) ∨ ∃ k, k < P ∧ ¬ a4 k = 0 ∧ my_mem (fx k) (wo k) (pl k) (S i)) ∧
  (∀ k l q, k < P → l < P → ¬ a4 k = 0 → ¬ a4 l = 0 → my_OP br q → my_mem (fx k) (wo k) (pl k) q → my_mem (fx l) (wo l) (pl l) q → k = l)
/-- the plans in order -/
def my_Ord (br : Nat → Bool) (pr S : Nat → Nat) (N : Nat) : Prop :=
  (∀ i, i < N → my_OP br (S i)) ∧ (∀ q, my_OP br q → ∃ i, i < N ∧ q = S i) ∧ (∀ i j, i < j → j < N → my_val pr (S i) < my_val pr (S j))
theorem my_MIR {br : Nat → Bool} {pr S : Nat → Nat} {N F P : Nat} {R R' : Nat → Prop} {fx wo pl : Nat → Nat} {a3 : Nat → Int64} {a4 a5 a6 : Nat → Int32} {a7 : Nat → Int64}
    (hS : my_Ord br pr S N) (h : my_MI br pr S N F P R fx wo pl a3 a4 a5 a6 a7) (hR : ∀ q, my_OP br q → (R q ↔ R' q)) : my_MI br pr S N F P R' fx wo pl a3 a4 a5 a6 a7 := by
  obtain ⟨h1, h2, h3, h4, h5, h6⟩ := h
  refine ⟨h1, h2, fun q o r => h3 q o ((hR q o).mpr r), fun k q kP ka o me => ⟨(h4 k q kP ka o me).1, fun r => (h4 k q kP ka o me).2 ((hR q o).mpr r)⟩, fun i iF iN => ?_, h6⟩
  rcases h5 i iF iN with x | x
  · exact Or.inl ((hR _ (hS.1 i iN)).mp x)
  · exact Or.inr x
def my_up (f : Nat → Nat) (k x : Nat) : Nat → Nat := fun j => if j = k then x else f j
theorem my_us {f : Nat → Nat} {k x : Nat} : my_up f k x k = x := if_pos rfl
theorem my_un {f : Nat → Nat} {k x j : Nat} (h : j ≠ k) : my_up f k x j = f j := if_neg h
theorem my_memq {f m p q r : Nat} (h : my_mem f m p q) : my_mem f m q r ↔ my_mem f m p r :=
  ⟨fun x => ⟨fun i hi => (x.1 i hi).trans (h.1 i hi), x.2⟩, fun x => ⟨fun i hi => (x.1 i hi).trans (h.1 i hi).symm, x.2⟩⟩
/-- a part is added: its plans go over from R -/
theorem my_add {br : Nat → Bool} {pr S : Nat → Nat} {N F P f m p q0 : Nat} {R : Nat → Prop} {fx wo pl : Nat → Nat} {a3 : Nat → Int64} {a4 a5 a6 : Nat → Int32} {a7 : Nat → Int64}
    (hS : my_Ord br pr S N) (h : my_MI br pr S N F P R fx wo pl a3 a4 a5 a6 a7) (hf : f < 5) (hm : m < 32) (o : my_OP br q0) (me : my_mem f m p q0) (mn : ∀ q, my_OP br q → my_mem f m p q → my_val pr q0 ≤ my_val pr q)
    (sub : ∀ q, my_OP br q → my_mem f m p q → R q) :
    my_MI br pr S N F (P + 1) (fun q => R q ∧ ¬ my_mem f m p q) (my_up fx P f) (my_up wo P m) (my_up pl P q0) a3 (upd a4 P 1) (upd a5 P (nI f)) (upd a6 P (nI m)) (vp_updL a7 P (lN (my_val pr q0))) := by
  obtain ⟨h1, h2, h3, h4, h5, h6⟩ := h
  have old : ∀ k q, k ≠ P → (my_mem (my_up fx P f k) (my_up wo P m k) (my_up pl P q0 k) q ↔ my_mem (fx k) (wo k) (pl k) q) := by
    intro k q kP
    rw [my_un kP, my_un kP, my_un kP]
  have new : ∀ q, my_mem (my_up fx P f P) (my_up wo P m P) (my_up pl P q0 P) q ↔ my_mem f m p q := by
    intro q
    rw [my_us, my_us, my_us]
    exact my_memq me
  have ua : ∀ k, k ≠ P → upd a4 P 1 k = a4 k := fun k kP => pk_un kP
  refine ⟨h1, fun k kP ka => ?_, fun q oq r => h3 q oq r.1, fun k q kP ka oq mq => ?_, fun i iF iN => ?_, fun k l q kP lP ka la oq mk ml => ?_⟩
  · by_cases e : k = P
    · subst e
      rw [pk_us, pk_us, pk_uLs, my_us, my_us, my_us]
      exact ⟨rfl, rfl, rfl, hf, hm, o, (my_memq me).mpr me, fun q oq mq => mn q oq ((my_memq me).mp mq)⟩
    · rw [pk_un e, pk_un e, pk_uLn e, my_un e, my_un e, my_un e]
      rw [ua k e] at ka
      exact h2 k (by omega) ka
  · by_cases e : k = P
    · rw [e] at mq
      have mq' := (new q).mp mq
      exact ⟨h3 q oq (sub q oq mq'), fun r => r.2 mq'⟩
    · have mq' := (old k q e).mp mq
      rw [ua k e] at ka
      obtain ⟨x1, x2⟩ := h4 k q (by omega) ka oq mq'
      exact ⟨x1, fun r => x2 r.1⟩
  · by_cases e : my_mem f m p (S i)
    · refine Or.inr ⟨P, by omega, ?_, (new _).mpr e⟩
      rw [pk_us]
      decide
    · rcases h5 i iF iN with x | ⟨k, kP, ka, mk⟩
      · exact Or.inl ⟨x, e⟩
      · exact Or.inr ⟨k, by omega, by rw [ua k (by omega)]; exact ka, (old k _ (by omega)).mpr mk⟩
  · by_cases e : k = P
    · by_cases e2 : l = P
      · omega
      · rw [e] at mk
        have mk' := (new q).mp mk
        have ml' := (old l q e2).mp ml
        rw [ua l e2] at la
        exact absurd (sub q oq mk') (h4 l q (by omega) la oq ml').2
    · by_cases e2 : l = P
      · rw [e2] at ml
        have ml' := (new q).mp ml
        have mk' := (old k q e).mp mk
        rw [ua k e] at ka
        exact absurd (sub q oq ml') (h4 k q (by omega) ka oq mk').2
      · rw [ua k e] at ka
        rw [ua l e2] at la
        exact h6 k l q (by omega) (by omega) ka la oq ((old k q e).mp mk) ((old l q e2).mp ml)
theorem my_inj {br : Nat → Bool} {pr S : Nat → Nat} {N i j : Nat} (hS : my_Ord br pr S N) (hi : i < N) (hj : j < N) (h : my_val pr (S i) ≤ my_val pr (S j)) : i ≤ j := by
  apply Classical.byContradiction
  intro n
  have t := hS.2.2 j i (by omega) hi
  omega
/-- the cheapest waiting part's cheapest plan is the next one -/
theorem my_best {br : Nat → Bool} {pr S : Nat → Nat} {N F P k0 : Nat} {fx wo pl : Nat → Nat} {a3 : Nat → Int64} {a4 a5 a6 : Nat → Int32} {a7 : Nat → Int64}
    (hpr : ∀ k, k < 25 → pr k < 100) (hS : my_Ord br pr S N) (h : my_MI br pr S N F P (fun _ => False) fx wo pl a3 a4 a5 a6 a7) (hF : F < N) (hk : k0 < P) (hw : ¬ a4 k0 = 0)
    (mn : ∀ j, j < P → ¬ a4 j = 0 → (a7 k0).toInt ≤ (a7 j).toInt) : pl k0 = S F := by
  obtain ⟨h1, h2, h3, h4, h5, h6⟩ := h
  obtain ⟨x1, x2, x3, x4, x5, x6, x7, x8⟩ := h2 k0 hk hw
  obtain ⟨⟨i, iF, iN, ie⟩, _⟩ := h4 k0 (pl k0) hk hw x6 x7
  rcases h5 F (Nat.le_refl F) hF with x | ⟨k, kP, ka, mk⟩
  · exact absurd x id
  · obtain ⟨y1, y2, y3, y4, y5, y6, y7, y8⟩ := h2 k kP ka
    have t1 := y8 (S F) (hS.1 F hF) mk
    have t2 := mn k kP ka
    have v1 := my_vlt hpr x6.1
    have v2 := my_vlt hpr y6.1
    rw [x3, y3, pk_lT (by omega), pk_lT (by omega)] at t2
    have t3 : my_val pr (pl k0) ≤ my_val pr (S F) := by omega
    rw [ie] at t3
    have t4 := my_inj hS iN hF t3
    rw [ie, show i = F by omega]
/-- the next plan is taken out of its part -/
theorem my_take {br : Nat → Bool} {pr S : Nat → Nat} {N F P k0 : Nat} {fx wo pl : Nat → Nat} {a3 : Nat → Int64} {a4 a5 a6 : Nat → Int32} {a7 : Nat → Int64}
    (hS : my_Ord br pr S N) (h : my_MI br pr S N F P (fun _ => False) fx wo pl a3 a4 a5 a6 a7) (hF : F < N) (hk : k0 < P) (hw : ¬ a4 k0 = 0) (hp : pl k0 = S F) :
    my_MI br pr S N (F + 1) P (fun q => my_mem (fx k0) (wo k0) (S F) q ∧ q ≠ S F) fx wo pl (vp_updL a3 F (a7 k0)) (upd a4 k0 0) a5 a6 a7 := by
  obtain ⟨h1, h2, h3, h4, h5, h6⟩ := h
  obtain ⟨x1, x2, x3, x4, x5, x6, x7, x8⟩ := h2 k0 hk hw
  rw [hp] at x3 x7
  have uk : ∀ k, ¬ upd a4 k0 0 k = 0 → k ≠ k0 ∧ ¬ a4 k = 0 := by
    intro k kn
    have n : k ≠ k0 := fun e => kn (by rw [e]; exact pk_us)
    rw [pk_un n] at kn
    exact ⟨n, kn⟩
  refine ⟨fun i iF => ?_, fun k kP ka => h2 k kP (uk k ka).2, fun q oq r => ?_, fun k q kP ka oq mq => ?_, fun i iF iN => ?_, fun k l q kP lP ka la => h6 k l q kP lP (uk k ka).2 (uk l la).2⟩
  · by_cases e : i = F
    · rw [e, pk_uLs]
      exact x3
    · rw [pk_uLn e]
      exact h1 i (by omega)
  · obtain ⟨⟨i, iF, iN, ie⟩, _⟩ := h4 k0 q hk hw oq (by rw [hp]; exact r.1)
    exact ⟨i, by have n : i ≠ F := fun e => r.2 (by rw [ie, e])
                 omega, iN, ie⟩
  · obtain ⟨kn, ka'⟩ := uk k ka
    obtain ⟨⟨i, iF, iN, ie⟩, _⟩ := h4 k q kP ka' oq mq
    refine ⟨⟨i, ?_, iN, ie⟩, fun r => kn (h6 k k0 q kP hk ka' hw oq mq (by rw [hp]; exact r.1))⟩
    have n : i ≠ F := fun e => kn (h6 k k0 q kP hk ka' hw oq mq (by rw [hp, ie, e]; exact x7))
    omega
  · rcases h5 i (by omega) iN with x | ⟨k, kP, ka, mk⟩
    · exact absurd x id
    · by_cases e : k = k0
      · rw [e, hp] at mk
        refine Or.inl ⟨mk, fun y => ?_⟩
        have t := my_inj hS iN hF (by rw [y]; exact Nat.le_refl _)
        omega
      · exact Or.inr ⟨k, kP, by rw [pk_un e]; exact ka, mk⟩
/-- dividing: what goes over into the part of worker w -/
theorem my_divR {br : Nat → Bool} {f m w z : Nat} {p q : Nat} (hp : my_OP br p) (hq : my_OP br q) (hm : m < 32) (hf : f ≤ w) (hw : w < 5) (hz : z = if w = f then m else 0) (mp : my_mem f m p p) :
    (my_mem w (z ||| 2 ^ my_dg p w) p q → (my_mem f m p q ∧ q ≠ p) ∧ ∀ i, i < w → my_dg q i = my_dg p i) ∧
    ((((my_mem f m p q ∧ q ≠ p) ∧ ∀ i, i < w → my_dg q i = my_dg p i) ∧ ¬ my_mem w (z ||| 2 ^ my_dg p w) p q) ↔ ((my_mem f m p q ∧ q ≠ p) ∧ ∀ i, i < w + 1 → my_dg q i = my_dg p i)) := by
  have z32 : z < 32 := by
    rw [hz]
    by_cases e : w = f
    · rw [if_pos e]; exact hm
    · rw [if_neg e]; omega
  have tb : (z ||| 2 ^ my_dg p w).testBit (my_dg q w) = (z.testBit (my_dg q w) || decide (my_dg p w = my_dg q w)) := my_orb z z32 _ (my_dg_lt p w) _ (my_dg_lt q w)
  have mem : my_mem w (z ||| 2 ^ my_dg p w) p q ↔ (∀ i, i < w → my_dg q i = my_dg p i) ∧ z.testBit (my_dg q w) = false ∧ ¬ my_dg p w = my_dg q w := by
    unfold my_mem
    rw [tb, Bool.or_eq_false_iff, decide_eq_false_iff_not]
  rw [mem]
  constructor
  · rintro ⟨x1, x2, x3⟩
    refine ⟨⟨⟨fun i hi => x1 i (by omega), ?_⟩, fun e => x3 (by rw [e])⟩, x1⟩
    by_cases e : w = f
    · rw [hz, if_pos e] at x2
      rw [← e]; exact x2
    · rw [x1 f (by omega)]; exact mp.2
  · constructor
    · rintro ⟨⟨⟨x1, x2⟩, x3⟩, x4⟩
      refine ⟨⟨x1, x2⟩, fun i hi => ?_⟩
      by_cases e : i = w
      · rw [e]
        apply Classical.byContradiction
        intro n
        apply x4
        refine ⟨x3, ?_, fun y => n y.symm⟩
        by_cases e2 : w = f
        · rw [hz, if_pos e2, e2]; exact x1.2
        · rw [hz, if_neg e2]; exact Nat.zero_testBit _
      · exact x3 i (by omega)
    · rintro ⟨⟨x1, x2⟩, x3⟩
      exact ⟨⟨⟨x1, x2⟩, fun i hi => x3 i (by omega)⟩, fun y => y.2.2 (x3 w (by omega)).symm⟩
end
section
/-! addPart, divide, findUpTo, plans, and the questions -/
theorem my_vb {C : Nat → Nat → Nat} {v : Nat} (hC : ∀ i j, i < 5 → j < 5 → C i j ≤ 1000000000) (hv : hg_Opt C v) : v ≤ 5000000000 := by
  obtain ⟨⟨g, hg, ev⟩, _⟩ := hv
  have t : hg_s5 (fun i => (C i (g i) : Int)) ≤ hg_s5 (fun _ => 1000000000) := hg_s5_le (fun i hi => by
    have u := hC i (g i) hi (hg.1 i hi)
    show (C i (g i) : Int) ≤ 1000000000
    omega)
  have e : hg_s5 (fun _ => 1000000000) = 5000000000 := rfl
  omega
theorem my_nm1 : ∀ i, i < 5 → ¬ nI i = -1 := by decide +kernel
theorem my_pin1 (pt : Int32) (q : Nat) : my_pin (-1) pt q := fun i hi e => absurd e (my_nm1 i hi)
theorem my_addPart {post : St2 → Prop} {fs fe ff fw fo fl pt : Int32} {a1 a2 : Nat → Int32} {a3 : Nat → Int64} {a4 a5 a6 : Nat → Int32} {a7 a8 a9 : Nat → Int64} {a10 a11 : Nat → Int32} {a12 : Nat → Int64} {a13 : Nat → Int32} {br : Nat → Bool} {pr S : Nat → Nat} {N F P f m p : Nat} {R : Nat → Prop} {fx wo pl : Nat → Nat}
    (hX : my_X pr br a1 a2) (hS : my_Ord br pr S N) (h : my_MI br pr S N F P R fx wo pl a3 a4 a5 a6 a7) (hP : P < 640) (hf : f < 5) (hm : m < 32) (hp : p < 3125)
    (sub : ∀ q, my_OP br q → my_mem f m p q → R q)
    (H : ∀ (P' : Nat) (fx' wo' pl' : Nat → Nat) (a4' a5' a6' : Nat → Int32) (a7' : Nat → Int64) (a8 a9 : Nat → Int64) (a10 a11 : Nat → Int32) (a12 : Nat → Int64) (a13 : Nat → Int32), P ≤ P' → P' ≤ P + 1 → (∀ k, k < P → a5' k = a5 k ∧ a6' k = a6 k) →
      my_MI br pr S N F P' (fun q => R q ∧ ¬ my_mem f m p q) fx' wo' pl' a3 a4' a5' a6' a7' → post (fs, fe, ff, nI P', nI f, nI m, nI p, -1, pt, a1, a2, a3, a4', a5', a6', a7', a8, a9, a10, a11, a12, a13)) :
    wpX_addPart post (fs, fe, ff, nI P, fw, fo, fl, -1, pt, a1, a2, a3, a4, a5, a6, a7, a8, a9, a10, a11, a12, a13) (nI f) (nI m) (nI p) := by
  unfold wpX_addPart wpX_setPart
  refine hg_solve (my_orc hX (by omega) hm hp) (my_Cle hX) (fun v a8 a9 a10 a11 a12 a13 hv => ?_)
  have vb := my_vb (my_Cle hX) hv
  have le : (1000000000 : Int64) ≤ lN v ↔ 1000000000 ≤ v := pk_lLE (a := 1000000000) (by omega) (by omega)
  rcases my_opt (fun k hk => (hX.1 k hk).2) hf hv with ⟨big, no⟩ | ⟨q, o, me, pn, ev, lt, mn⟩
  · refine br_t (le.mpr big) (H P fx wo pl a4 a5 a6 a7 a8 a9 a10 a11 a12 a13 (Nat.le_refl P) (by omega) (fun k _ => ⟨rfl, rfl⟩) ?_)
    exact my_MIR hS h (fun q o => ⟨fun r => ⟨r, fun me => no q o me (my_pin1 pt q)⟩, fun r => r.1⟩)
  · refine br_f (fun z => absurd (le.mp z) (by omega)) ?_
    rw [nI_clamp (show P < 2 ^ 31 by omega), ev]
    refine ⟨pk_in P 640 hP, nm_e ⟨pk_in P 640 hP, nm_e ⟨pk_in P 640 hP, nm_e ⟨pk_in P 640 hP, nm_e (nm_r (nI_1 P) (H (P + 1) (my_up fx P f) (my_up wo P m) (my_up pl P q) (upd a4 P 1) (upd a5 P (nI f)) (upd a6 P (nI m)) (vp_updL a7 P (lN (my_val pr q))) a8 a9 a10 a11 a12 a13 (by omega) (by omega) (fun k hk => ⟨pk_un (by omega), pk_un (by omega)⟩) ?_))⟩⟩⟩⟩
    exact my_add hS h hf hm o me (fun r r1 r2 => mn r r1 r2 (my_pin1 pt r)) sub
theorem my_div {post : St2 → Prop} {fs fe ff pt : Int32} {a1 a2 : Nat → Int32} {a3 : Nat → Int64} {br : Nat → Bool} {pr S : Nat → Nat} {N F f m p k0 B : Nat}
    (hX : my_X pr br a1 a2) (hS : my_Ord br pr S N) (hp : my_OP br p) (mp : my_mem f m p p) (hf : f < 5) (hm : m < 32) (hB : B ≤ 640)
    (H : ∀ (P' : Nat) (fx' wo' pl' : Nat → Nat) (fw fo fl : Int32) (a4 a5 a6 : Nat → Int32) (a7 : Nat → Int64) (a8 a9 : Nat → Int64) (a10 a11 : Nat → Int32) (a12 : Nat → Int64) (a13 : Nat → Int32), P' ≤ B →
      my_MI br pr S N F P' (fun _ => False) fx' wo' pl' a3 a4 a5 a6 a7 → post (fs, fe, ff, nI P', fw, fo, fl, -1, pt, a1, a2, a3, a4, a5, a6, a7, a8, a9, a10, a11, a12, a13)) :
    ∀ (d w P : Nat) (fw fo fl : Int32) (a4 a5 a6 : Nat → Int32) (a7 : Nat → Int64) (a8 a9 : Nat → Int64) (a10 a11 : Nat → Int32) (a12 : Nat → Int64) (a13 : Nat → Int32) (fx wo pl : Nat → Nat), w + d = 5 → f ≤ w → k0 < P → P + d ≤ B → a5 k0 = nI f → a6 k0 = nI m →
      my_MI br pr S N F P (fun q => (my_mem f m p q ∧ q ≠ p) ∧ ∀ i, i < w → my_dg q i = my_dg p i) fx wo pl a3 a4 a5 a6 a7 →
      wX_divide_19 post (nI k0) (nI p) (d + 1) (nI w) fs fe ff (nI P) fw fo fl (-1) pt a1 a2 a3 a4 a5 a6 a7 a8 a9 a10 a11 a12 a13 := by
  intro d
  induction d with
  | zero =>
    intro w P fw fo fl a4 a5 a6 a7 a8 a9 a10 a11 a12 a13 fx wo pl hw fw' hk hPB e5 e6 hM
    have w5 : w = 5 := by omega
    subst w5
    refine pk_le 5 5 (fun _ => ?_) (fun z => absurd z (by omega))
    refine H P fx wo pl fw fo fl a4 a5 a6 a7 a8 a9 a10 a11 a12 a13 (by omega) (my_MIR hS hM (fun q o => ⟨fun r => ?_, fun r => absurd r id⟩))
    exact r.1.2 (my_ext o.1 hp.1 r.2)
  | succ d ih =>
    intro w P fw fo fl a4 a5 a6 a7 a8 a9 a10 a11 a12 a13 fx wo pl hw fw' hk hPB e5 e6 hM
    have key : ∀ z, z = (if w = f then m else 0) → wX_divide_44 post (wX_divide_19 post (nI k0) (nI p) (d + 1)) (nI k0) (nI p) (nI w) (nI z) fs fe ff (nI P) fw fo fl (-1) pt a1 a2 a3 a4 a5 a6 a7 a8 a9 a10 a11 a12 a13 := by
      intro z hz
      have z32 : z < 32 := by
        rw [hz]
        by_cases e : w = f
        · rw [if_pos e]; exact hm
        · rw [if_neg e]; omega
      obtain ⟨o1, o2⟩ := my_or z z32 _ (my_dg_lt p w)
      unfold wX_divide_44
      refine my_digit hp.1 (by omega) ?_
      rw [o1]
      refine my_addPart hX hS hM (by omega) (by omega) o2 hp.1 (fun q o me => (my_divR hp o hm fw' (by omega) hz mp).1 me) (fun P' fx' wo' pl' a4' a5' a6' a7' a8 a9 a10 a11 a12 a13 h1 h2 h3 h4 => nm_r (nI_1 w) (ih (w + 1) P' _ _ _ a4' a5' a6' a7' a8 a9 a10 a11 a12 a13 fx' wo' pl' (by omega) (by omega) (by omega) (by omega) ((h3 k0 hk).1.trans e5) ((h3 k0 hk).2.trans e6) ?_))
      exact my_MIR hS h4 (fun q o => (my_divR hp o hm fw' (by omega) hz mp).2)
    refine pk_le 5 w (fun z => absurd z (by omega)) (fun _ => ⟨pk_in k0 640 (by omega), ?_⟩)
    rw [nI_clamp (show k0 < 2 ^ 31 by omega), e5, e6]
    exact pk_eq w f (fun e => ⟨pk_in k0 640 (by omega), key m (if_pos e).symm⟩) (fun e => key 0 (if_neg e).symm)
theorem my_wdiv {post : St2 → Prop} {fs fe ff fw fo fl pt : Int32} {a1 a2 : Nat → Int32} {a3 : Nat → Int64} {a4 a5 a6 : Nat → Int32} {a7 a8 a9 : Nat → Int64} {a10 a11 : Nat → Int32} {a12 : Nat → Int64} {a13 : Nat → Int32} {br : Nat → Bool} {pr S : Nat → Nat} {N F P f m p k0 : Nat} {fx wo pl : Nat → Nat}
    (hX : my_X pr br a1 a2) (hS : my_Ord br pr S N) (hp : my_OP br p) (mp : my_mem f m p p) (hf : f < 5) (hm : m < 32) (hk : k0 < P) (hP : P + 5 ≤ 640)
    (e5 : a5 k0 = nI f) (e6 : a6 k0 = nI m) (e7 : a7 k0 = lN (my_val pr p))
    (hM : my_MI br pr S N F P (fun q => my_mem f m p q ∧ q ≠ p) fx wo pl a3 a4 a5 a6 a7)
    (H : ∀ (P' : Nat) (fx' wo' pl' : Nat → Nat) (fw fo fl : Int32) (a4 a5 a6 : Nat → Int32) (a7 : Nat → Int64) (a8 a9 : Nat → Int64) (a10 a11 : Nat → Int32) (a12 : Nat → Int64) (a13 : Nat → Int32), P' ≤ P + 5 →
      my_MI br pr S N F P' (fun _ => False) fx' wo' pl' a3 a4 a5 a6 a7 → post (fs, fe, ff, nI P', fw, fo, fl, -1, pt, a1, a2, a3, a4, a5, a6, a7, a8, a9, a10, a11, a12, a13)) :
    wpX_divide post (fs, fe, ff, nI P, fw, fo, fl, -1, pt, a1, a2, a3, a4, a5, a6, a7, a8, a9, a10, a11, a12, a13) (nI k0) := by
  unfold wpX_divide
  have vl := my_vlt (fun k hk => (hX.1 k hk).2) hp.1
  have em : my_val pr p % 3125 = p := by
    have p1 := hp.1
    unfold my_val
    omega
  have er : lN (my_val pr p) - lN (my_val pr p) / lN 3125 * lN 3125 = lN (my_val pr p % 3125) := pk_lRem (by omega) (by omega) (by omega)
  have er' : lN (my_val pr p) - lN (my_val pr p) / 3125 * 3125 = lN (my_val pr p % 3125) := er
  refine And.intro (pk_in k0 640 (by omega)) (And.intro (by decide) ?_)
  rw [nI_clamp (show k0 < 2 ^ 31 by omega), e7, er', em, lN_i, e5]
  refine nm_e ⟨pk_in k0 640 (by omega), nm_e ⟨5 - f + 1, ?_⟩⟩
  refine my_div (B := P + 5) hX hS hp mp hf hm hP H (5 - f) f P fw fo fl a4 a5 a6 a7 a8 a9 a10 a11 a12 a13 fx wo pl (by omega) (Nat.le_refl f) hk (by omega) e5 e6 (my_MIR hS hM (fun q o => ⟨fun r => ⟨r, r.1.1⟩, fun r => r.1⟩))
theorem my_62 {post : St2 → Prop} {J : Int32 → Int32 → Int32 → Int32 → Int32 → Int32 → Int32 → Int32 → Int32 → Int32 → (Nat → Int32) → (Nat → Int32) → (Nat → Int64) → (Nat → Int32) → (Nat → Int32) → (Nat → Int32) → (Nat → Int64) → (Nat → Int64) → (Nat → Int64) → (Nat → Int32) → (Nat → Int32) → (Nat → Int64) → (Nat → Int32) → Prop}
    {x1 x2 : Int32} {fs fe ff fw fo fl pw pt : Int32} {a1 a2 : Nat → Int32} {a3 : Nat → Int64} {a4 a5 a6 : Nat → Int32} {a7 a8 a9 : Nat → Int64} {a10 a11 : Nat → Int32} {a12 : Nat → Int64} {a13 : Nat → Int32} {P : Nat} (hP : P ≤ 640)
    (H0 : (∀ j, j < P → a4 j = 0) → wX_findUpTo_125 post J x1 x2 (-1) 1 fs fe ff (nI P) fw fo fl pw pt a1 a2 a3 a4 a5 a6 a7 a8 a9 a10 a11 a12 a13)
    (H1 : ∀ k, k < P → ¬ a4 k = 0 → (∀ j, j < P → ¬ a4 j = 0 → (a7 k).toInt ≤ (a7 j).toInt) → wX_findUpTo_125 post J x1 x2 (nI k) 0 fs fe ff (nI P) fw fo fl pw pt a1 a2 a3 a4 a5 a6 a7 a8 a9 a10 a11 a12 a13) :
    ∃ n, wX_findUpTo_62 post J x1 x2 fs fe ff (nI P) fw fo fl pw pt a1 a2 a3 a4 a5 a6 a7 a8 a9 a10 a11 a12 a13 n (-1) 0 := by
  refine pk_loop (σ := Int32) (fun n k s => wX_findUpTo_62 post J x1 x2 fs fe ff (nI P) fw fo fl pw pt a1 a2 a3 a4 a5 a6 a7 a8 a9 a10 a11 a12 a13 n s (nI k))
    (fun k s => (s = -1 ∧ ∀ j, j < k → a4 j = 0) ∨ ∃ b, b < k ∧ s = nI b ∧ ¬ a4 b = 0 ∧ ∀ j, j < k → ¬ a4 j = 0 → (a7 b).toInt ≤ (a7 j).toInt) P 0 (-1) (by omega) (Or.inl ⟨rfl, fun j hj => absurd hj (by omega)⟩) ?_ ?_
  · intro n s hI
    refine pk_le P P (fun _ => ?_) (fun z => absurd z (by omega))
    rcases hI with ⟨es, hn⟩ | ⟨b, bP, es, ab, hm⟩
    · rw [es]
      exact br_f (by decide) (H0 hn)
    · rw [es]
      exact br_t (nI_pos' (by omega)) (H1 b bP ab hm)
  · intro n k s hk hI hw
    refine pk_le P k (fun z => absurd z (by omega)) (fun _ => ⟨pk_in k 640 (by omega), ?_⟩)
    rw [nI_clamp (show k < 2 ^ 31 by omega)]
    refine br_c (fun z => nm_r (nI_1 k) (hw s ?_)) (fun z => ?_)
    · rcases hI with ⟨es, hn⟩ | ⟨b, bP, es, ab, hm⟩
      · refine Or.inl ⟨es, fun j hj => ?_⟩
        by_cases e : j = k
        · rw [e]; exact z
        · exact hn j (by omega)
      · refine Or.inr ⟨b, by omega, es, ab, fun j hj ja => ?_⟩
        by_cases e : j = k
        · exact absurd z (by rw [← e]; exact ja)
        · exact hm j (by omega) ja
    · rcases hI with ⟨es, hn⟩ | ⟨b, bP, es, ab, hm⟩
      · rw [es]
        refine br_t (by decide) (nm_r (nI_1 k) (hw _ (Or.inr ⟨k, by omega, rfl, z, fun j hj ja => ?_⟩)))
        by_cases e : j = k
        · rw [e]; omega
        · exact absurd (hn j (by omega)) ja
      · rw [es]
        refine br_f (nI_pos (by omega)) ⟨pk_in k 640 (by omega), pk_in b 640 (by omega), ?_⟩
        rw [nI_clamp (show b < 2 ^ 31 by omega)]
        refine br_c (fun g => nm_r (nI_1 k) (hw _ (Or.inr ⟨b, by omega, rfl, ab, fun j hj ja => ?_⟩))) (fun g => nm_r (nI_1 k) (hw _ (Or.inr ⟨k, by omega, rfl, z, fun j hj ja => ?_⟩)))
        · by_cases e : j = k
          · rw [e]; exact Int64.le_iff_toInt_le.mp g
          · exact hm j (by omega) ja
        · have g' : ¬ (a7 b).toInt ≤ (a7 k).toInt := fun t => g (Int64.le_iff_toInt_le.mpr t)
          by_cases e : j = k
          · rw [e]; omega
          · have t := hm j (by omega) ja
            omega
theorem my_36 {post : St2 → Prop} {fs pt : Int32} {a1 a2 : Nat → Int32} {br : Nat → Bool} {pr S : Nat → Nat} {N : Nat}
    (hX : my_X pr br a1 a2) (hS : my_Ord br pr S N) (hN : N ≤ 100)
    (H : ∀ (fe fp fw fo fl : Int32) (a3 : Nat → Int64) (a4 a5 a6 : Nat → Int32) (a7 : Nat → Int64) (a8 a9 : Nat → Int64) (a10 a11 : Nat → Int32) (a12 : Nat → Int64) (a13 : Nat → Int32), (∀ i, i < N → a3 i = lN (my_val pr (S i))) → post (fs, fe, nI N, fp, fw, fo, fl, -1, pt, a1, a2, a3, a4, a5, a6, a7, a8, a9, a10, a11, a12, a13)) :
    ∀ (d F P : Nat) (fw fo fl : Int32) (a3 : Nat → Int64) (a4 a5 a6 : Nat → Int32) (a7 : Nat → Int64) (a8 a9 : Nat → Int64) (a10 a11 : Nat → Int32) (a12 : Nat → Int64) (a13 : Nat → Int32) (fx wo pl : Nat → Nat), F + d = N → P ≤ 1 + 5 * F →
      my_MI br pr S N F P (fun _ => False) fx wo pl a3 a4 a5 a6 a7 → wX_findUpTo_36 post 120 (d + 3) (nI F) fs 0 (nI F) (nI P) fw fo fl (-1) pt a1 a2 a3 a4 a5 a6 a7 a8 a9 a10 a11 a12 a13 := by
  intro d
  induction d with
  | zero =>
    intro F P fw fo fl a3 a4 a5 a6 a7 a8 a9 a10 a11 a12 a13 fx wo pl hF hP hM
    have eF : F = N := by omega
    subst eF
    refine pk_le 120 F (fun z => absurd z (by omega)) (fun _ => pk_le 120 F (fun z => absurd z (by omega)) (fun _ => br_t rfl ?_))
    refine my_62 (by omega) (fun hn => ?_) (fun k kP ka _ => ?_)
    · refine ⟨by decide, by decide, br_f (by decide) (nm_r (nI_1 F) ?_)⟩
      exact pk_le 120 (F + 1) (fun z => absurd z (by omega)) (fun _ => pk_le 120 F (fun z => absurd z (by omega)) (fun _ => br_f (by decide) (H _ _ _ _ _ a3 a4 a5 a6 a7 a8 a9 a10 a11 a12 a13 hM.1)))
    · obtain ⟨x1, x2, x3, x4, x5, x6, x7, x8⟩ := hM.2.1 k kP ka
      obtain ⟨⟨i, i1, i2, _⟩, _⟩ := hM.2.2.2.1 k _ kP ka x6 x7
      omega
  | succ d ih =>
    intro F P fw fo fl a3 a4 a5 a6 a7 a8 a9 a10 a11 a12 a13 fx wo pl hF hP hM
    refine pk_le 120 F (fun z => absurd z (by omega)) (fun _ => pk_le 120 F (fun z => absurd z (by omega)) (fun _ => br_t rfl ?_))
    refine my_62 (by omega) (fun hn => ?_) (fun k kP ka km => ?_)
    · rcases hM.2.2.2.2.1 F (Nat.le_refl F) (by omega) with x | ⟨k, kP, ka, _⟩
      · exact absurd x id
      · exact absurd (hn k kP) ka
    · have hb := my_best (fun k hk => (hX.1 k hk).2) hS hM (by omega) kP ka km
      have hT := my_take hS hM (by omega) kP ka hb
      obtain ⟨x1, x2, x3, x4, x5, x6, x7, x8⟩ := hM.2.1 k kP ka
      rw [hb] at x3 x6 x7
      refine ⟨by decide, by decide, br_t rfl ⟨pk_in k 640 (by omega), pk_in F 120 (by omega), ?_⟩⟩
      rw [nI_clamp (show k < 2 ^ 31 by omega), nI_clamp (show F < 2 ^ 31 by omega)]
      refine nm_e (nm_r (nI_1 F) ⟨pk_in k 640 (by omega), nm_e ?_⟩)
      exact my_wdiv hX hS x6 x7 x4 x5 kP (by omega) x1 x2 x3 hT (fun P' fx' wo' pl' fw fo fl a4 a5 a6 a7 a8 a9 a10 a11 a12 a13 hP' hM' => nm_r (nI_1 F) (ih (F + 1) P' fw fo fl _ a4 a5 a6 a7 a8 a9 a10 a11 a12 a13 fx' wo' pl' (by omega) (by omega) hM'))
theorem my_plans {post : Int32 → St2 → Prop} {fe ff fp fw fo fl pt : Int32} {a1 a2 : Nat → Int32} {a3 : Nat → Int64} {a4 a5 a6 : Nat → Int32} {a7 a8 a9 : Nat → Int64} {a10 a11 : Nat → Int32} {a12 : Nat → Int64} {a13 : Nat → Int32} {br : Nat → Bool} {pr S : Nat → Nat} {N : Nat}
    (hX : my_X pr br a1 a2) (hS : my_Ord br pr S N) (hN : N ≤ 100)
    (H : ∀ (fe fp fw fo fl : Int32) (a3 : Nat → Int64) (a4 a5 a6 : Nat → Int32) (a7 : Nat → Int64) (a8 a9 : Nat → Int64) (a10 a11 : Nat → Int32) (a12 : Nat → Int64) (a13 : Nat → Int32), (∀ i, i < N → a3 i = lN (my_val pr (S i))) → post (nI N) (1, fe, nI N, fp, fw, fo, fl, -1, pt, a1, a2, a3, a4, a5, a6, a7, a8, a9, a10, a11, a12, a13)) :
    wpX_plans post (0, fe, ff, fp, fw, fo, fl, -1, pt, a1, a2, a3, a4, a5, a6, a7, a8, a9, a10, a11, a12, a13) := by
  unfold wpX_plans wpX_findUpTo
  have mem0 : ∀ q, my_mem 0 0 0 q := fun q => ⟨fun i hi => absurd hi (by omega), Nat.zero_testBit _⟩
  have hM : my_MI br pr S N 0 0 (fun _ => True) (fun _ => 0) (fun _ => 0) (fun _ => 0) a3 a4 a5 a6 a7 :=
    ⟨fun i hi => absurd hi (by omega), fun k hk => absurd hk (by omega), fun q o _ => by
      obtain ⟨i, i1, i2⟩ := hS.2.1 q o
      exact ⟨i, by omega, i1, i2⟩, fun k q hk => absurd hk (by omega), fun i _ _ => Or.inl trivial, fun k l q hk => absurd hk (by omega)⟩
  refine br_t rfl ?_
  refine my_addPart (P := 0) (f := 0) (m := 0) (p := 0) hX hS hM (by omega) (by omega) (by omega) (by omega) (fun _ _ _ => trivial) (fun P' fx' wo' pl' a4' a5' a6' a7' a8 a9 a10 a11 a12 a13 h1 h2 h3 h4 => ⟨N + 3, ?_⟩)
  refine my_36 hX hS hN ?_ N 0 P' _ _ _ a3 a4' a5' a6' a7' a8 a9 a10 a11 a12 a13 fx' wo' pl' (by omega) (by omega)
    (my_MIR hS h4 (fun q o => ⟨fun r => absurd (mem0 q) r.2, fun r => absurd r id⟩))
  exact fun fe fp fw fo fl a3 a4 a5 a6 a7 a8 a9 a10 a11 a12 a13 h => H fe fp fw fo fl a3 a4 a5 a6 a7 a8 a9 a10 a11 a12 a13 h
theorem my_hasRank {post : Int32 → St2 → Prop} {fe fp fw fo fl pw pt : Int32} {a1 a2 : Nat → Int32} {a3 : Nat → Int64} {a4 a5 a6 : Nat → Int32} {a7 a8 a9 : Nat → Int64} {a10 a11 : Nat → Int32} {a12 : Nat → Int64} {a13 : Nat → Int32} {N r : Nat} (hN : N ≤ 100) (hr : r < N)
    (H : post 1 (1, fe, nI N, fp, fw, fo, fl, pw, pt, a1, a2, a3, a4, a5, a6, a7, a8, a9, a10, a11, a12, a13)) : wpX_hasRank post (1, fe, nI N, fp, fw, fo, fl, pw, pt, a1, a2, a3, a4, a5, a6, a7, a8, a9, a10, a11, a12, a13) (nI r) := by
  unfold wpX_hasRank wpX_findUpTo
  refine br_f (nI_pos (by omega)) (pk_le r 119 (fun _ => ?_) (fun z => absurd z (by omega)))
  refine br_f (by decide) ⟨1, ?_⟩
  refine pk_le 120 0 (fun z => absurd z (by omega)) (fun _ => pk_le (r + 1) N (fun _ => ?_) (fun z => absurd z (by omega)) (nI_1 r))
  exact pk_le N r (fun z => absurd z (by omega)) (fun _ => H)
theorem my_cost {post : Int32 → St2 → Prop} {fe fp fw fo fl pw pt : Int32} {a1 a2 : Nat → Int32} {a3 : Nat → Int64} {a4 a5 a6 : Nat → Int32} {a7 a8 a9 : Nat → Int64} {a10 a11 : Nat → Int32} {a12 : Nat → Int64} {a13 : Nat → Int32} {N r v : Nat} (hN : N ≤ 100) (hr : r < N) (h3 : a3 r = lN v) (hv : v < 1000000000)
    (H : post (nI (v / 3125)) (1, fe, nI N, fp, fw, fo, fl, pw, pt, a1, a2, a3, a4, a5, a6, a7, a8, a9, a10, a11, a12, a13)) : wpX_cost post (1, fe, nI N, fp, fw, fo, fl, pw, pt, a1, a2, a3, a4, a5, a6, a7, a8, a9, a10, a11, a12, a13) (nI r) := by
  unfold wpX_cost
  refine my_hasRank hN hr (br_f (by decide) ⟨pk_in r 120 (by omega), by decide, ?_⟩)
  have e : lN v / lN 3125 = lN (v / 3125) := pk_lDiv (by omega) (by omega) (by omega)
  have e' : lN v / 3125 = lN (v / 3125) := e
  rw [nI_clamp (show r < 2 ^ 31 by omega), h3, e', lN_i]
  exact H
theorem my_inRange {post : Int32 → Prop} {i : Nat} (hi : i < 5) (H : post 1) : wpX_inRange post () (nI i) := by
  unfold wpX_inRange
  exact br_f (nI_pos (by omega)) (pk_lt 4 i (fun z => absurd z (by omega)) (fun _ => H))
theorem my_task {post : Int32 → St2 → Prop} {fe fp fw fo fl pw pt : Int32} {a1 a2 : Nat → Int32} {a3 : Nat → Int64} {a4 a5 a6 : Nat → Int32} {a7 a8 a9 : Nat → Int64} {a10 a11 : Nat → Int32} {a12 : Nat → Int64} {a13 : Nat → Int32} {N r v w : Nat} (hN : N ≤ 100) (hr : r < N) (hw : w < 5) (h3 : a3 r = lN v) (hv : v < 1000000000)
    (H : post (nI (my_dg (v % 3125) w)) (1, fe, nI N, fp, fw, fo, fl, pw, pt, a1, a2, a3, a4, a5, a6, a7, a8, a9, a10, a11, a12, a13)) : wpX_task post (1, fe, nI N, fp, fw, fo, fl, pw, pt, a1, a2, a3, a4, a5, a6, a7, a8, a9, a10, a11, a12, a13) (nI r) (nI w) := by
  unfold wpX_task
  refine my_inRange hw (br_f (by decide) (my_hasRank hN hr (br_f (by decide) ⟨pk_in r 120 (by omega), by decide, ?_⟩)))
  have er : lN v - lN v / lN 3125 * lN 3125 = lN (v % 3125) := pk_lRem (by omega) (by omega) (by omega)
  have er' : lN v - lN v / 3125 * 3125 = lN (v % 3125) := er
  rw [nI_clamp (show r < 2 ^ 31 by omega), h3, er', lN_i]
  exact nm_e (my_digit (Nat.mod_lt _ (by omega)) hw H)
theorem my_cheap {post : Int32 → St2 → Prop} {fs fe ff fp fw fo fl pw pt : Int32} {a1 a2 : Nat → Int32} {a3 : Nat → Int64} {a4 a5 a6 : Nat → Int32} {a7 a8 a9 : Nat → Int64} {a10 a11 : Nat → Int32} {a12 : Nat → Int64} {a13 : Nat → Int32} {br : Nat → Bool} {pr : Nat → Nat} {w j : Nat} (hX : my_X pr br a1 a2) (hw : w < 5) (hj : j < 5)
    (H0 : (∀ q, my_OP br q → ¬ my_pin (nI w) (nI j) q) → ∀ (fw fo fl : Int32) (a8 a9 : Nat → Int64) (a10 a11 : Nat → Int32) (a12 : Nat → Int64) (a13 : Nat → Int32), post (-1) (fs, fe, ff, fp, fw, fo, fl, -1, nI j, a1, a2, a3, a4, a5, a6, a7, a8, a9, a10, a11, a12, a13))
    (H1 : ∀ q, my_OP br q → my_pin (nI w) (nI j) q → ∀ (fw fo fl : Int32) (a8 a9 : Nat → Int64) (a10 a11 : Nat → Int32) (a12 : Nat → Int64) (a13 : Nat → Int32), post (nI (my_val pr q / 3125)) (fs, fe, ff, fp, fw, fo, fl, -1, nI j, a1, a2, a3, a4, a5, a6, a7, a8, a9, a10, a11, a12, a13)) :
    wpX_cheapestWith post (fs, fe, ff, fp, fw, fo, fl, pw, pt, a1, a2, a3, a4, a5, a6, a7, a8, a9, a10, a11, a12, a13) (nI w) (nI j) := by
  unfold wpX_cheapestWith wpX_setPart
  refine my_inRange hw (br_f (by decide) (my_inRange hj (br_f (by decide) ?_)))
  refine hg_solve (my_orc (f := 0) (m := 0) (p := 0) hX (by omega) (by omega) (by omega)) (my_Cle hX) (fun v a8 a9 a10 a11 a12 a13 hv => ?_)
  have vb := my_vb (my_Cle hX) hv
  have mem0 : ∀ q, my_mem 0 0 0 q := fun q => ⟨fun i hi => absurd hi (by omega), Nat.zero_testBit _⟩
  have lt : lN v < (1000000000 : Int64) ↔ v < 1000000000 := pk_lLT (b := 1000000000) (by omega) (by omega)
  rcases my_opt (fun k hk => (hX.1 k hk).2) (by omega) hv with ⟨big, no⟩ | ⟨q, o, me, pn, ev, l, mn⟩
  · exact br_f (fun z => absurd (lt.mp z) (by omega)) (H0 (fun q o => no q o (mem0 q)) _ _ _ a8 a9 a10 a11 a12 a13)
  · refine br_t (lt.mpr l) ⟨by decide, ?_⟩
    have e : lN v / lN 3125 = lN (v / 3125) := pk_lDiv (by omega) (by omega) (by omega)
    have e' : lN v / 3125 = lN (v / 3125) := e
    rw [e', lN_i, ev]
    exact H1 q o pn _ _ _ a8 a9 a10 a11 a12 a13
end
section
def lz_PL : List Nat := [194, 198, 214, 222, 238, 242, 294, 298, 334, 346, 358, 366, 414, 422, 434, 446, 482, 486, 538, 542, 558, 566, 582, 586, 694, 698, 714, 722, 738, 742, 894, 898, 954, 970, 978, 990, 1014, 1022, 1054, 1070, 1102, 1110, 1138, 1142, 1178, 1190, 1202, 1210, 1294, 1298, 1334, 1346, 1358, 1366, 1394, 1398, 1454, 1470, 1478, 1490, 1634, 1646, 1654, 1670, 1726, 1730, 1758, 1766, 1778, 1790, 1826, 1830, 1914, 1922, 1934, 1946, 1982, 1986, 2014, 2022, 2054, 2070, 2102, 2110, 2134, 2146, 2154, 2170, 2226, 2230, 2382, 2386, 2402, 2410, 2426, 2430, 2538, 2542, 2558, 2566, 2582, 2586, 2638, 2642, 2678, 2690, 2702, 2710, 2758, 2766, 2778, 2790, 2826, 2830, 2882, 2886, 2902, 2910, 2926, 2930]
def lz_tab : List (List Nat) := [[194, 198, 214, 222, 238, 242],
  [294, 298, 334, 346, 358, 366],
  [894, 898, 954, 970, 978, 990],
  [1014, 1022, 1054, 1070, 1102, 1110],
  [1634, 1646, 1654, 1670, 1726, 1730],
  [1758, 1766, 1778, 1790, 1826, 1830],
  [2382, 2386, 2402, 2410, 2426, 2430],
  [1914, 1922, 1934, 1946, 1982, 1986],
  [2538, 2542, 2558, 2566, 2582, 2586],
  [2638, 2642, 2678, 2690, 2702, 2710],
  [1294, 1298, 1914, 1922, 2538, 2542],
  [694, 698, 1934, 1946, 2558, 2566],
  [194, 198, 2054, 2070, 2678, 2690],
  [214, 222, 1454, 1470, 2702, 2710],
  [334, 346, 954, 970, 2826, 2830],
  [358, 366, 978, 990, 2226, 2230],
  [482, 486, 1102, 1110, 1726, 1730],
  [1014, 1022, 1634, 1646, 2882, 2886],
  [1138, 1142, 1758, 1766, 2382, 2386],
  [538, 542, 1778, 1790, 2402, 2410],
  [1634, 1758, 2134, 2382, 2758, 2882],
  [1014, 1138, 2014, 2386, 2638, 2886],
  [414, 538, 1914, 2410, 2538, 2910],
  [294, 542, 1294, 1790, 2542, 2790],
  [194, 566, 694, 1190, 2566, 2690],
  [198, 446, 698, 1070, 1946, 2070],
  [222, 346, 722, 970, 1346, 1470],
  [954, 1202, 1454, 1826, 2702, 2826],
  [978, 1102, 1478, 1726, 2102, 2226],
  [358, 482, 1358, 1730, 1982, 2230],
  [1726, 1826, 2226, 2426, 2826, 2926],
  [1102, 1202, 2102, 2402, 2702, 2902],
  [482, 582, 1982, 2382, 2582, 2882],
  [358, 558, 1358, 1758, 2558, 2758],
  [238, 538, 738, 1138, 2538, 2638],
  [214, 414, 714, 1014, 1914, 2014],
  [194, 294, 694, 894, 1294, 1394],
  [990, 1190, 1490, 1790, 2690, 2790],
  [970, 1070, 1470, 1670, 2070, 2170],
  [346, 446, 1346, 1646, 1946, 2146],
  [970, 990, 1070, 1110, 1190, 1210],
  [1470, 1490, 1670, 1730, 1790, 1830],
  [1346, 1366, 1646, 1726, 1766, 1826],
  [1946, 1986, 2146, 2226, 2386, 2426],
  [1922, 1982, 2022, 2102, 2382, 2402],
  [2542, 2582, 2642, 2702, 2882, 2902],
  [2538, 2558, 2638, 2678, 2758, 2778],
  [198, 238, 298, 358, 538, 558],
  [194, 214, 294, 334, 414, 434],
  [694, 714, 894, 954, 1014, 1054]]
/-- the ten pairs of digits differ -/
def lz_pq (q : Nat) : Bool :=
  my_dg q 0 != my_dg q 1 && my_dg q 0 != my_dg q 2 && my_dg q 0 != my_dg q 3 && my_dg q 0 != my_dg q 4 && my_dg q 1 != my_dg q 2 && my_dg q 1 != my_dg q 3 && my_dg q 1 != my_dg q 4 && my_dg q 2 != my_dg q 3 && my_dg q 2 != my_dg q 4 && my_dg q 3 != my_dg q 4
theorem lz_pm_pq {q : Nat} (h : hg_pm (my_dg q)) : lz_pq q = true := by
  have n : ∀ i l, i < 5 → l < 5 → i ≠ l → (my_dg q i != my_dg q l) = true := fun i l hi hl e => bne_iff_ne.mpr (fun z => e (h.2 i l hi hl z))
  unfold lz_pq
  rw [n 0 1 (by omega) (by omega) (by omega), n 0 2 (by omega) (by omega) (by omega), n 0 3 (by omega) (by omega) (by omega), n 0 4 (by omega) (by omega) (by omega), n 1 2 (by omega) (by omega) (by omega), n 1 3 (by omega) (by omega) (by omega), n 1 4 (by omega) (by omega) (by omega), n 2 3 (by omega) (by omega) (by omega), n 2 4 (by omega) (by omega) (by omega), n 3 4 (by omega) (by omega) (by omega)]
  rfl
theorem lz_pq_pm {q : Nat} (h : lz_pq q = true) : hg_pm (my_dg q) := by
  unfold lz_pq at h
  simp only [Bool.and_eq_true, bne_iff_ne] at h
  obtain ⟨⟨⟨⟨⟨⟨⟨⟨⟨h1, h2⟩, h3⟩, h4⟩, h5⟩, h6⟩, h7⟩, h8⟩, h9⟩, h10⟩ := h
  refine ⟨fun i _ => my_dg_lt q i, fun i l hi hl e => ?_⟩
  rcases my_five hi with x | x | x | x | x <;> rcases my_five hl with y | y | y | y | y <;> subst x <;> subst y <;> first | rfl | exact absurd e ‹_› | exact absurd e.symm ‹_›
theorem lz_PL_all : ∀ q, q < 3125 → lz_pq q = true → q ∈ lz_PL := by decide +kernel
def lz_nth : List Nat → Nat → Nat
  | [], _ => 0
  | x :: _, 0 => x
  | _ :: l, n + 1 => lz_nth l n
theorem lz_mem : ∀ (l : List Nat) (q : Nat), q ∈ l → ∃ i, i < l.length ∧ q = lz_nth l i := by
  intro l
  induction l with
  | nil => intro q h; exact absurd h (List.not_mem_nil)
  | cons x l ih =>
    intro q h
    rcases List.mem_cons.mp h with e | e
    · exact ⟨0, by rw [List.length_cons]; omega, e⟩
    · obtain ⟨i, hi, ei⟩ := ih q e
      exact ⟨i + 1, by rw [List.length_cons]; omega, ei⟩
def lz_A (w t x : Nat) : List Nat := lz_tab.getD ((5 * w + t) * 2 + x) []
def lz_ins (x : Nat) : List Nat → List Nat
  | [] => [x]
  | y :: l => if x ≤ y then x :: y :: l else y :: lz_ins x l
/-- the plans in order: o = 0: s < u; 1: u < s; 2: s = u -/
def lz_l (o w t : Nat) : List Nat :=
  if o = 0 then lz_A w t 0 ++ lz_A w t 1 else if o = 1 then lz_A w t 1 ++ lz_A w t 0 else (lz_A w t 0).foldr lz_ins (lz_A w t 1)
theorem lz_f1 : ∀ o, o < 3 → ∀ w, w < 5 → ∀ t, t < 5 → (lz_l o w t).length = 12 := by decide +kernel
def lz_ab (w t q : Nat) : Bool := decide (my_dg q w = t) && (decide (my_dg q ((w + 1) % 5) = (t + 1) % 5) || decide (my_dg q ((w + 1) % 5) = (t + 2) % 5))
def lz_p2 (o w t i : Nat) : Bool := decide (lz_nth (lz_l o w t) i < 3125) && lz_pq (lz_nth (lz_l o w t) i) && lz_ab w t (lz_nth (lz_l o w t) i)
theorem lz_f2 : ∀ o, o < 3 → ∀ w, w < 5 → ∀ t, t < 5 → ∀ i, i < 12 → lz_p2 o w t i = true := by decide +kernel
theorem lz_f3 : ∀ w, w < 5 → ∀ t, t < 5 → ∀ i, i < 12 → my_dg (lz_nth (lz_l 0 w t) i) ((w + 1) % 5) = (if i < 6 then (t + 1) % 5 else (t + 2) % 5) ∧ my_dg (lz_nth (lz_l 1 w t) i) ((w + 1) % 5) = (if i < 6 then (t + 2) % 5 else (t + 1) % 5) := by decide +kernel
def lz_p4 (o w t j i : Nat) : Bool := !(decide (o = 2) || (decide (i < 6) == decide (j < 6))) || decide (lz_nth (lz_l o w t) i < lz_nth (lz_l o w t) j)
theorem lz_f4 : ∀ o, o < 3 → ∀ w, w < 5 → ∀ t, t < 5 → ∀ j, j < 12 → ∀ i, i < j → lz_p4 o w t j i = true := by decide +kernel
theorem lz_f5 : ∀ o, o < 3 → ∀ w, w < 5 → ∀ t, t < 5 → lz_PL.all (fun q => !lz_ab w t q || decide (q ∈ lz_l o w t)) = true := by decide +kernel
end
section
/-! the law's own tables, and what follows for the plans in order -/
def lz_br (w t i k : Nat) : Bool :=
  (decide (k / 5 = w) && decide (k % 5 ≠ t) && decide (k % 5 < i)) || (decide (k / 5 = (w + 1) % 5) && decide (k % 5 ≠ (t + 1) % 5) && decide (k % 5 ≠ (t + 2) % 5) && decide (k % 5 < i))
def lz_pr (w t s u k : Nat) : Nat := if k = 5 * ((w + 1) % 5) + (t + 2) % 5 then u else if k = 5 * ((w + 1) % 5) + (t + 1) % 5 then s else 0
theorem lz_brf {w t n i j : Nat} (hj : j < 5) : lz_br w t n (5 * i + j) = false ↔ (i = w → j < n → j = t) ∧ (i = (w + 1) % 5 → j < n → j = (t + 1) % 5 ∨ j = (t + 2) % 5) := by
  have e1 : (5 * i + j) / 5 = i := by omega
  have e2 : (5 * i + j) % 5 = j := by omega
  unfold lz_br
  rw [e1, e2]
  simp only [Bool.or_eq_false_iff, Bool.and_eq_false_iff, decide_eq_false_iff_not]
  omega
theorem lz_abI {w t q : Nat} : lz_ab w t q = true ↔ my_dg q w = t ∧ (my_dg q ((w + 1) % 5) = (t + 1) % 5 ∨ my_dg q ((w + 1) % 5) = (t + 2) % 5) := by
  unfold lz_ab
  rw [Bool.and_eq_true, Bool.or_eq_true, decide_eq_true_eq, decide_eq_true_eq, decide_eq_true_eq]
theorem lz_op {w t q : Nat} (hw : w < 5) : my_OP (lz_br w t 5) q ↔ q < 3125 ∧ lz_pq q = true ∧ lz_ab w t q = true := by
  constructor
  · rintro ⟨h1, h2, h3⟩
    refine ⟨h1, lz_pm_pq h2, lz_abI.mpr ⟨?_, ?_⟩⟩
    · exact ((lz_brf (my_dg_lt q w)).mp (h3 w hw)).1 rfl (my_dg_lt q w)
    · exact ((lz_brf (my_dg_lt q _)).mp (h3 ((w + 1) % 5) (by omega))).2 rfl (my_dg_lt q _)
  · rintro ⟨h1, h2, h3⟩
    obtain ⟨h4, h5⟩ := lz_abI.mp h3
    refine ⟨h1, lz_pq_pm h2, fun i hi => (lz_brf (my_dg_lt q i)).mpr ⟨fun e _ => ?_, fun e _ => ?_⟩⟩
    · rw [e]; exact h4
    · rw [e]; exact h5
theorem lz_val {w t s u q : Nat} (hw : w < 5) : my_val (lz_pr w t s u) q = 3125 * (if my_dg q ((w + 1) % 5) = (t + 2) % 5 then u else if my_dg q ((w + 1) % 5) = (t + 1) % 5 then s else 0) + q := by
  have v5 : (w + 1) % 5 < 5 := by omega
  have a5 : (t + 1) % 5 < 5 := by omega
  have b5 : (t + 2) % 5 < 5 := by omega
  have e1 : ∀ i, i ≠ (w + 1) % 5 → lz_pr w t s u (5 * i + my_dg q i) = 0 := by
    intro i hi
    have d := my_dg_lt q i
    unfold lz_pr
    rw [if_neg (by omega), if_neg (by omega)]
  have e2 : lz_pr w t s u (5 * ((w + 1) % 5) + my_dg q ((w + 1) % 5)) = (if my_dg q ((w + 1) % 5) = (t + 2) % 5 then u else if my_dg q ((w + 1) % 5) = (t + 1) % 5 then s else 0) := by
    unfold lz_pr
    by_cases x : my_dg q ((w + 1) % 5) = (t + 2) % 5
    · rw [if_pos x, if_pos (by omega)]
    · rw [if_neg x, if_neg (by omega)]
      by_cases y : my_dg q ((w + 1) % 5) = (t + 1) % 5
      · rw [if_pos y, if_pos (by omega)]
      · rw [if_neg y, if_neg (by omega)]
  unfold my_val my_sum
  dsimp only
  rw [← e2]
  generalize (w + 1) % 5 = v at v5 e1 e2
  rcases my_five v5 with x | x | x | x | x <;> subst x
  · rw [e1 1 (by omega), e1 2 (by omega), e1 3 (by omega), e1 4 (by omega)]; omega
  · rw [e1 0 (by omega), e1 2 (by omega), e1 3 (by omega), e1 4 (by omega)]; omega
  · rw [e1 0 (by omega), e1 1 (by omega), e1 3 (by omega), e1 4 (by omega)]; omega
  · rw [e1 0 (by omega), e1 1 (by omega), e1 2 (by omega), e1 4 (by omega)]; omega
  · rw [e1 0 (by omega), e1 1 (by omega), e1 2 (by omega), e1 3 (by omega)]; omega
def lz_o (o s u : Nat) : Prop := (o = 0 ∧ s < u) ∨ (o = 1 ∧ u < s) ∨ (o = 2 ∧ s = u)
theorem lz_oex (s u : Nat) : ∃ o, lz_o o s u := by
  unfold lz_o
  rcases Nat.lt_trichotomy s u with h | h | h
  · exact ⟨0, Or.inl ⟨rfl, h⟩⟩
  · exact ⟨2, Or.inr (Or.inr ⟨rfl, h⟩)⟩
  · exact ⟨1, Or.inr (Or.inl ⟨rfl, h⟩)⟩
theorem lz_o3 {o s u : Nat} (h : lz_o o s u) : o < 3 := by
  unfold lz_o at h
  omega
theorem lz_at {o w t i : Nat} (ho : o < 3) (hw : w < 5) (ht : t < 5) (hi : i < 12) : my_OP (lz_br w t 5) (lz_nth (lz_l o w t) i) := by
  have h := lz_f2 o ho w hw t ht i hi
  unfold lz_p2 at h
  rw [Bool.and_eq_true, Bool.and_eq_true, decide_eq_true_eq] at h
  exact (lz_op hw).mpr ⟨h.1.1, h.1.2, h.2⟩
theorem lz_opd {w t q : Nat} (hw : w < 5) (h : my_OP (lz_br w t 5) q) : my_dg q w = t ∧ (my_dg q ((w + 1) % 5) = (t + 1) % 5 ∨ my_dg q ((w + 1) % 5) = (t + 2) % 5) := lz_abI.mp ((lz_op hw).mp h).2.2
theorem lz_vi {o w t s u i : Nat} (ho : lz_o o s u) (hw : w < 5) (ht : t < 5) (hi : i < 12) :
    my_val (lz_pr w t s u) (lz_nth (lz_l o w t) i) = 3125 * (if i < 6 then min s u else max s u) + lz_nth (lz_l o w t) i := by
  rw [lz_val hw]
  have ne : (t + 1) % 5 ≠ (t + 2) % 5 := by omega
  rcases ho with ⟨e, h⟩ | ⟨e, h⟩ | ⟨e, h⟩
  · subst e
    rw [(lz_f3 w hw t ht i hi).1]
    by_cases x : i < 6
    · rw [if_pos x, if_pos x, if_neg ne, if_pos rfl]; omega
    · rw [if_neg x, if_neg x, if_pos rfl]; omega
  · subst e
    rw [(lz_f3 w hw t ht i hi).2]
    by_cases x : i < 6
    · rw [if_pos x, if_pos x, if_pos rfl]; omega
    · rw [if_neg x, if_neg x, if_neg ne, if_pos rfl]; omega
  · have k : (if i < 6 then min s u else max s u) = s := by
      by_cases x : i < 6
      · rw [if_pos x]; omega
      · rw [if_neg x]; omega
    rw [k]
    rcases (lz_opd hw (lz_at (lz_o3 (Or.inr (Or.inr ⟨e, h⟩))) hw ht hi)).2 with y | y
    · rw [y, if_neg ne, if_pos rfl]
    · rw [y, if_pos rfl, h]
theorem lz_lt {o w t i j : Nat} (ho : o < 3) (hw : w < 5) (ht : t < 5) (hj : j < 12) (hi : i < j) (hc : o = 2 ∨ (i < 6 ↔ j < 6)) : lz_nth (lz_l o w t) i < lz_nth (lz_l o w t) j := by
  have h := lz_f4 o ho w hw t ht j hj i hi
  unfold lz_p4 at h
  have c : (decide (o = 2) || (decide (i < 6) == decide (j < 6))) = true := by
    rcases hc with e | e
    · rw [decide_eq_true e]; rfl
    · rw [Bool.or_eq_true]
      exact Or.inr (beq_iff_eq.mpr (decide_eq_decide.mpr e))
  rw [c] at h
  exact of_decide_eq_true h
theorem lz_ord {o w t s u : Nat} (ho : lz_o o s u) (hw : w < 5) (ht : t < 5) : my_Ord (lz_br w t 5) (lz_pr w t s u) (lz_nth (lz_l o w t)) 12 := by
  have o3 := lz_o3 ho
  refine ⟨fun i hi => lz_at o3 hw ht hi, fun q h => ?_, fun i j hi hj => ?_⟩
  · obtain ⟨h1, h2, h3⟩ := (lz_op hw).mp h
    have m := lz_PL_all q h1 h2
    have f := List.all_eq_true.mp (lz_f5 o o3 w hw t ht) q m
    rw [h3] at f
    have f' : decide (q ∈ lz_l o w t) = true := f
    obtain ⟨i, i1, i2⟩ := lz_mem _ q (of_decide_eq_true f')
    rw [lz_f1 o o3 w hw t ht] at i1
    exact ⟨i, i1, i2⟩
  · rw [lz_vi ho hw ht (by omega), lz_vi ho hw ht hj]
    have x1 := (lz_at o3 hw ht (show i < 12 by omega)).1
    by_cases c : i < 6 ↔ j < 6
    · have l := lz_lt o3 hw ht hj hi (Or.inr c)
      by_cases x : i < 6
      · rw [if_pos x, if_pos (c.mp x)]; omega
      · rw [if_neg x, if_neg (fun y => x (c.mpr y))]; omega
    · have i6 : i < 6 := by omega
      have j6 : ¬ j < 6 := by omega
      rw [if_pos i6, if_neg j6]
      rcases ho with ⟨e, h⟩ | ⟨e, h⟩ | ⟨e, h⟩
      · omega
      · omega
      · have l := lz_lt o3 hw ht hj hi (Or.inl e)
        omega
theorem lz_q {o w t s u i : Nat} (ho : lz_o o s u) (hw : w < 5) (ht : t < 5) (hi : i < 12) : my_val (lz_pr w t s u) (lz_nth (lz_l o w t) i) / 3125 = (if i < 6 then min s u else max s u) ∧ my_val (lz_pr w t s u) (lz_nth (lz_l o w t) i) % 3125 = lz_nth (lz_l o w t) i := by
  rw [lz_vi ho hw ht hi]
  have x1 := (lz_at (lz_o3 ho) hw ht hi).1
  generalize (if i < 6 then min s u else max s u) = c
  omega
end
section
/-! the law -/
theorem lz_bar {post : Int32 → St2 → Prop} {fs fe ff fp fw fo fl pw pt : Int32} {a1 a2 : Nat → Int32} {a3 : Nat → Int64} {a4 a5 a6 : Nat → Int32} {a7 a8 a9 : Nat → Int64} {a10 a11 : Nat → Int32} {a12 : Nat → Int64} {a13 : Nat → Int32} {w i : Nat} (hw : w < 5) (hi : i < 5) (H : post 0 (0, fe, ff, fp, fw, fo, fl, pw, pt, a1, upd a2 (5 * w + i) 1, a3, a4, a5, a6, a7, a8, a9, a10, a11, a12, a13)) : wpX_bar post (fs, fe, ff, fp, fw, fo, fl, pw, pt, a1, a2, a3, a4, a5, a6, a7, a8, a9, a10, a11, a12, a13) (nI w) (nI i) := by
  unfold wpX_bar
  refine my_inRange hw (br_f (by decide) (my_inRange hi (br_f (by decide) ?_)))
  rw [my_ix, nI_clamp (show 5 * w + i < 2 ^ 31 by omega)]
  exact ⟨pk_in (5 * w + i) 25 (by omega), nm_e H⟩
theorem lz_price {post : Int32 → St2 → Prop} {fs fe ff fp fw fo fl pw pt : Int32} {a1 a2 : Nat → Int32} {a3 : Nat → Int64} {a4 a5 a6 : Nat → Int32} {a7 a8 a9 : Nat → Int64} {a10 a11 : Nat → Int32} {a12 : Nat → Int64} {a13 : Nat → Int32} {w i s : Nat} (hw : w < 5) (hi : i < 5) (hs : s < 100) (H : post 0 (0, fe, ff, fp, fw, fo, fl, pw, pt, upd a1 (5 * w + i) (nI s), upd a2 (5 * w + i) 0, a3, a4, a5, a6, a7, a8, a9, a10, a11, a12, a13)) : wpX_price post (fs, fe, ff, fp, fw, fo, fl, pw, pt, a1, a2, a3, a4, a5, a6, a7, a8, a9, a10, a11, a12, a13) (nI w) (nI i) (nI s) := by
  unfold wpX_price
  refine my_inRange hw (br_f (by decide) (my_inRange hi (br_f (by decide) (br_f (nI_pos (by omega)) (pk_le s 99 (fun _ => ?_) (fun z => absurd z (by omega)))))))
  rw [my_ix, nI_clamp (show 5 * w + i < 2 ^ 31 by omega)]
  exact ⟨pk_in (5 * w + i) 25 (by omega), nm_e ⟨pk_in (5 * w + i) 25 (by omega), nm_e H⟩⟩
/-- which places are barred: worker w's below m, worker v's below n -/
def lz_Z (w t m n : Nat) (a2 : Nat → Int32) : Prop :=
  ∀ c j, c < 5 → j < 5 → (a2 (5 * c + j) = 0 ↔ (c = w → j < m → j = t) ∧ (c = (w + 1) % 5 → j < n → j = (t + 1) % 5 ∨ j = (t + 2) % 5))
theorem lz_one : ¬ (1 : Int32) = 0 := by decide
theorem lz_Z0 {w t : Nat} : lz_Z w t 0 0 (fun _ => 0) := fun c j _ _ => ⟨fun _ => ⟨fun _ h => absurd h (by omega), fun _ h => absurd h (by omega)⟩, fun _ => rfl⟩
theorem lz_Zw {w t n i : Nat} {a2 : Nat → Int32} (h : lz_Z w t i n a2) (ht : i ≠ t) (hi : i < 5) : lz_Z w t (i + 1) n (upd a2 (5 * w + i) 1) := by
  intro c j hc hj
  by_cases e : 5 * c + j = 5 * w + i
  · rw [e, pk_us]
    constructor
    · intro z; exact absurd z lz_one
    · intro z
      have x := z.1 (by omega) (by omega)
      omega
  · rw [pk_un e, h c j hc hj]
    omega
theorem lz_Zw' {w t n i : Nat} {a2 : Nat → Int32} (h : lz_Z w t i n a2) (ht : i = t) : lz_Z w t (i + 1) n a2 := by
  intro c j hc hj
  rw [h c j hc hj]
  omega
theorem lz_Zv {w t m i : Nat} {a2 : Nat → Int32} (h : lz_Z w t m i a2) (ha : i ≠ (t + 1) % 5) (hb : i ≠ (t + 2) % 5) (hi : i < 5) : lz_Z w t m (i + 1) (upd a2 (5 * ((w + 1) % 5) + i) 1) := by
  intro c j hc hj
  by_cases e : 5 * c + j = 5 * ((w + 1) % 5) + i
  · rw [e, pk_us]
    constructor
    · intro z; exact absurd z lz_one
    · intro z
      have x := z.2 (by omega) (by omega)
      omega
  · rw [pk_un e, h c j hc hj]
    omega
theorem lz_Zv' {w t m i : Nat} {a2 : Nat → Int32} (h : lz_Z w t m i a2) (ht : i = (t + 1) % 5 ∨ i = (t + 2) % 5) : lz_Z w t m (i + 1) a2 := by
  intro c j hc hj
  rw [h c j hc hj]
  omega
theorem lz_Zp {w t i : Nat} {a2 : Nat → Int32} (h : lz_Z w t 5 5 a2) (hw : w < 5) (ht : i = (t + 1) % 5 ∨ i = (t + 2) % 5) : lz_Z w t 5 5 (upd a2 (5 * ((w + 1) % 5) + i) 0) := by
  intro c j hc hj
  by_cases e : 5 * c + j = 5 * ((w + 1) % 5) + i
  · rw [e, pk_us]
    constructor
    · intro _
      omega
    · intro _; rfl
  · rw [pk_un e]
    exact h c j hc hj
theorem lz_X {w t s u : Nat} {a2 : Nat → Int32} (hs : s < 100) (hu : u < 100) (h : lz_Z w t 5 5 a2) :
    my_X (lz_pr w t s u) (lz_br w t 5) (upd (upd (fun _ => 0) (5 * ((w + 1) % 5) + (t + 1) % 5) (nI s)) (5 * ((w + 1) % 5) + (t + 2) % 5) (nI u)) a2 := by
  refine ⟨fun k hk => ?_, fun k hk => ?_⟩
  · unfold lz_pr
    by_cases e : k = 5 * ((w + 1) % 5) + (t + 2) % 5
    · rw [if_pos e, e, pk_us]
      exact ⟨rfl, hu⟩
    · rw [if_neg e, pk_un e]
      by_cases g : k = 5 * ((w + 1) % 5) + (t + 1) % 5
      · rw [if_pos g, g, pk_us]
        exact ⟨rfl, hs⟩
      · rw [if_neg g, pk_un g]
        exact ⟨rfl, by omega⟩
  · have e : k = 5 * (k / 5) + k % 5 := by omega
    rw [e, h (k / 5) (k % 5) (by omega) (by omega), lz_brf (by omega)]
theorem lz_290 {post : Int32 → St0 → Prop} {mc ms kc ks : Nat} {z : Int32} {fs fe ff fp fw fo fl pw pt : Int32} {a1 a2 : Nat → Int32} {a3 : Nat → Int64} {a4 a5 a6 : Nat → Int32} {a7 a8 a9 : Nat → Int64} {a10 a11 : Nat → Int32} {a12 : Nat → Int64} {a13 : Nat → Int32} {w t s u : Nat} (hw : w < 5) (ht : t < 5) (hX : my_X (lz_pr w t s u) (lz_br w t 5) a1 a2) (H : post 1 ()) :
    wL_lawOf_290 post mc ms (nI w) (nI ((w + 1) % 5)) (nI ((t + 1) % 5)) (nI ((t + 2) % 5)) (nI u) z z kc ks fs fe ff fp fw fo fl pw pt a1 a2 a3 a4 a5 a6 a7 a8 a9 a10 a11 a12 a13 := by
  unfold wL_lawOf_290
  refine br_t rfl (my_cheap hX (by omega) (by omega) (fun no fw fo fl a8 a9 a10 a11 a12 a13 => ?_) (fun q o pn fw fo fl a8 a9 a10 a11 a12 a13 => ?_))
  · refine absurd ?_ (no (lz_nth (lz_l 0 w t) 6) (lz_at (by omega) hw ht (by omega)))
    intro i hi e
    have e' : i = (w + 1) % 5 := (nI_eq (by omega) (by omega)).mp e
    have f := (lz_f3 w hw t ht 6 (by omega)).1
    rw [if_neg (by omega)] at f
    rw [e', f]
  · have d : my_dg q ((w + 1) % 5) = (t + 2) % 5 := by
      have x := pn ((w + 1) % 5) (by omega) rfl
      have y := my_dg_lt q ((w + 1) % 5)
      exact (nI_eq (by omega) (by omega)).mp x
    have e : my_val (lz_pr w t s u) q / 3125 = u := by
      have q1 := o.1
      rw [lz_val hw, if_pos d]
      omega
    rw [e]
    refine br_t rfl (my_cheap hX hw (by omega) (fun no fw fo fl a8 a9 a10 a11 a12 a13 => br_t rfl H) (fun q o pn fw fo fl a8 a9 a10 a11 a12 a13 => ?_))
    have x := pn w hw rfl
    have y := my_dg_lt q w
    have x' : my_dg q w = (t + 1) % 5 := (nI_eq (by omega) (by omega)).mp x
    have z' := (lz_opd hw o).1
    omega
theorem lz_231 {post : Int32 → St0 → Prop} {mc ms kc ks : Nat} {x2 z : Int32} {fe fp fw fo fl pw pt : Int32} {a1 a2 : Nat → Int32} {a3 : Nat → Int64} {a4 a5 a6 : Nat → Int32} {a7 a8 a9 : Nat → Int64} {a10 a11 : Nat → Int32} {a12 : Nat → Int64} {a13 : Nat → Int32} {o w t s u : Nat} (hw : w < 5) (ht : t < 5) (hs : s < 100) (hu : u < 100) (ho : lz_o o s u) (hX : my_X (lz_pr w t s u) (lz_br w t 5) a1 a2)
    (h3 : ∀ i, i < 12 → a3 i = lN (my_val (lz_pr w t s u) (lz_nth (lz_l o w t) i))) (H : post 1 ()) :
    wL_lawOf_231 post mc ms x2 (nI w) (nI t) (nI ((w + 1) % 5)) (nI ((t + 1) % 5)) (nI ((t + 2) % 5)) (nI s) (nI u) z z kc ks 1 fe (nI 12) fp fw fo fl pw pt a1 a2 a3 a4 a5 a6 a7 a8 a9 a10 a11 a12 a13 := by
  unfold wL_lawOf_231
  have o3 := lz_o3 ho
  have vl : ∀ i, i < 12 → my_val (lz_pr w t s u) (lz_nth (lz_l o w t) i) < 1000000000 := fun i hi => my_vlt (fun k hk => (hX.1 k hk).2) (lz_at o3 hw ht hi).1
  obtain ⟨j, j8, ej⟩ := pk_andE x2 (m := 7) 3 (by decide)
  rw [ej]
  refine br_t rfl (my_task (N := 12) (r := j) (by omega) (by omega) hw (h3 j (by omega)) (vl j (by omega)) ?_)
  rw [(lz_q ho hw ht (show j < 12 by omega)).2, (lz_opd hw (lz_at o3 hw ht (show j < 12 by omega))).1]
  refine br_t rfl (my_task (N := 12) (r := 0) (by omega) (by omega) (by omega) (h3 0 (by omega)) (vl 0 (by omega)) ?_)
  rw [(lz_q ho hw ht (show 0 < 12 by omega)).2]
  refine pk_le u s (fun hus => pk_le s u (fun hsu => ?_) (fun hlt => ?_)) (fun hlt => ?_)
  · refine my_task (N := 12) (r := 0) (by omega) (by omega) (by omega) (h3 0 (by omega)) (vl 0 (by omega)) ?_
    rw [(lz_q ho hw ht (show 0 < 12 by omega)).2]
    exact lz_290 hw ht hX H
  · have e : o = 1 := by
      unfold lz_o at ho
      omega
    subst e
    have f := (lz_f3 w hw t ht 0 (by omega)).2
    rw [if_pos (by omega)] at f
    rw [f]
    exact lz_290 hw ht hX H
  · have e : o = 0 := by
      unfold lz_o at ho
      omega
    subst e
    have f := (lz_f3 w hw t ht 0 (by omega)).1
    rw [if_pos (by omega)] at f
    rw [f]
    exact lz_290 hw ht hX H
theorem lz_205 {post : Int32 → St0 → Prop} {mc ms kc ks : Nat} {x2 z : Int32} {fe fp fw fo fl pw pt : Int32} {a1 a2 : Nat → Int32} {a3 : Nat → Int64} {a4 a5 a6 : Nat → Int32} {a7 a8 a9 : Nat → Int64} {a10 a11 : Nat → Int32} {a12 : Nat → Int64} {a13 : Nat → Int32} {o w t s u : Nat} (hw : w < 5) (ht : t < 5) (hs : s < 100) (hu : u < 100) (ho : lz_o o s u) (hX : my_X (lz_pr w t s u) (lz_br w t 5) a1 a2)
    (h3 : ∀ i, i < 12 → a3 i = lN (my_val (lz_pr w t s u) (lz_nth (lz_l o w t) i))) (H : post 1 ()) :
    wL_lawOf_205 post mc ms x2 (nI w) (nI t) (nI ((w + 1) % 5)) (nI ((t + 1) % 5)) (nI ((t + 2) % 5)) (nI s) (nI u) z z kc ks 1 fe (nI 12) fp fw fo fl pw pt a1 a2 a3 a4 a5 a6 a7 a8 a9 a10 a11 a12 a13 := by
  unfold wL_lawOf_205
  have vl : ∀ i, i < 12 → my_val (lz_pr w t s u) (lz_nth (lz_l o w t) i) < 1000000000 := fun i hi => my_vlt (fun k hk => (hX.1 k hk).2) (lz_at (lz_o3 ho) hw ht hi).1
  refine br_t rfl (my_cost (N := 12) (r := 6) (by omega) (by omega) (h3 6 (by omega)) (vl 6 (by omega)) ?_)
  rw [(lz_q ho hw ht (show 6 < 12 by omega)).1, if_neg (by omega)]
  refine pk_le u s (fun hus => ?_) (fun hlt => ?_)
  · rw [show max s u = s by omega]
    exact lz_231 hw ht hs hu ho hX h3 H
  · rw [show max s u = u by omega]
    exact lz_231 hw ht hs hu ho hX h3 H
theorem lz_181 {post : Int32 → St0 → Prop} {mc ms kc ks : Nat} {x2 z : Int32} {fe fp fw fo fl pw pt : Int32} {a1 a2 : Nat → Int32} {a3 : Nat → Int64} {a4 a5 a6 : Nat → Int32} {a7 a8 a9 : Nat → Int64} {a10 a11 : Nat → Int32} {a12 : Nat → Int64} {a13 : Nat → Int32} {o w t s u : Nat} (hw : w < 5) (ht : t < 5) (hs : s < 100) (hu : u < 100) (ho : lz_o o s u) (hX : my_X (lz_pr w t s u) (lz_br w t 5) a1 a2)
    (h3 : ∀ i, i < 12 → a3 i = lN (my_val (lz_pr w t s u) (lz_nth (lz_l o w t) i))) (H : post 1 ()) :
    wL_lawOf_181 post mc ms x2 (nI w) (nI t) (nI ((w + 1) % 5)) (nI ((t + 1) % 5)) (nI ((t + 2) % 5)) (nI s) (nI u) z z kc ks 1 fe (nI 12) fp fw fo fl pw pt a1 a2 a3 a4 a5 a6 a7 a8 a9 a10 a11 a12 a13 := by
  unfold wL_lawOf_181
  have vl : ∀ i, i < 12 → my_val (lz_pr w t s u) (lz_nth (lz_l o w t) i) < 1000000000 := fun i hi => my_vlt (fun k hk => (hX.1 k hk).2) (lz_at (lz_o3 ho) hw ht hi).1
  refine br_t rfl (my_cost (N := 12) (r := 11) (by omega) (by omega) (h3 11 (by omega)) (vl 11 (by omega)) ?_)
  rw [(lz_q ho hw ht (show 11 < 12 by omega)).1, if_neg (by omega)]
  refine pk_le u s (fun hus => ?_) (fun hlt => ?_)
  · rw [show max s u = s by omega]
    exact lz_205 hw ht hs hu ho hX h3 H
  · rw [show max s u = u by omega]
    exact lz_205 hw ht hs hu ho hX h3 H
theorem lz_74 {post : Int32 → St0 → Prop} {mc ms kc ks : Nat} {x2 : Int32} {fe ff fp fw fo fl pt : Int32} {a3 : Nat → Int64} {a4 a5 a6 : Nat → Int32} {a7 a8 a9 : Nat → Int64} {a10 a11 : Nat → Int32} {a12 : Nat → Int64} {a13 : Nat → Int32} {w t s u : Nat} (hw : w < 5) (ht : t < 5) (hs : s < 100) (hu : u < 100) (H : post 1 ()) :
    ∀ (d i : Nat) (a2 : Nat → Int32), i + d = 5 → lz_Z w t i i a2 →
      wL_lawOf_74 post mc ms x2 (nI w) (nI t) (nI ((w + 1) % 5)) (nI ((t + 1) % 5)) (nI ((t + 2) % 5)) (nI s) (nI u) kc ks (d + 1) (nI i) 0 fe ff fp fw fo fl (-1) pt (fun _ => 0) a2 a3 a4 a5 a6 a7 a8 a9 a10 a11 a12 a13 := by
  intro d
  induction d with
  | zero =>
    intro i a2 hi hZ
    have i5 : i = 5 := by omega
    subst i5
    obtain ⟨o, ho⟩ := lz_oex s u
    have hX := lz_X hs hu (lz_Zp (lz_Zp hZ hw (Or.inl rfl)) hw (Or.inr rfl))
    have vl : ∀ i, i < 12 → my_val (lz_pr w t s u) (lz_nth (lz_l o w t) i) < 1000000000 := fun i hi => my_vlt (fun k hk => (hX.1 k hk).2) (lz_at (lz_o3 ho) hw ht hi).1
    refine pk_le 5 5 (fun _ => ?_) (fun z => absurd z (by omega))
    refine lz_price (by omega) (by omega) hs (lz_price (by omega) (by omega) hu ?_)
    refine my_plans (N := 12) hX (lz_ord ho hw ht) (by omega) (fun fe fp fw fo fl a3 a4 a5 a6 a7 a8 a9 a10 a11 a12 a13 h3 => ?_)
    refine br_t rfl (my_cost (N := 12) (r := 0) (by omega) (by omega) (h3 0 (by omega)) (vl 0 (by omega)) ?_)
    rw [(lz_q ho hw ht (show 0 < 12 by omega)).1, if_pos (by omega)]
    refine pk_le u s (fun hus => ?_) (fun hlt => ?_)
    · rw [show min s u = u by omega]
      exact lz_181 hw ht hs hu ho hX h3 H
    · rw [show min s u = s by omega]
      exact lz_181 hw ht hs hu ho hX h3 H
  | succ d ih =>
    intro i a2 hi hZ
    have k97 : ∀ a2, lz_Z w t (i + 1) i a2 → wL_lawOf_97 post mc ms (wL_lawOf_74 post mc ms x2 (nI w) (nI t) (nI ((w + 1) % 5)) (nI ((t + 1) % 5)) (nI ((t + 2) % 5)) (nI s) (nI u) kc ks (d + 1)) x2 (nI w) (nI t) (nI ((w + 1) % 5)) (nI ((t + 1) % 5)) (nI ((t + 2) % 5)) (nI s) (nI u) (nI i) kc ks 0 fe ff fp fw fo fl (-1) pt (fun _ => 0) a2 a3 a4 a5 a6 a7 a8 a9 a10 a11 a12 a13 := by
      intro a2 hZ
      unfold wL_lawOf_97
      refine pk_eq i ((t + 1) % 5) (fun e => nm_r (nI_1 i) (ih (i + 1) a2 (by omega) (lz_Zv' hZ (Or.inl e)))) (fun e1 => ?_)
      refine pk_eq i ((t + 2) % 5) (fun e => nm_r (nI_1 i) (ih (i + 1) a2 (by omega) (lz_Zv' hZ (Or.inr e)))) (fun e2 => ?_)
      exact lz_bar (by omega) (by omega) (nm_r (nI_1 i) (ih (i + 1) _ (by omega) (lz_Zv hZ e1 e2 (by omega))))
    refine pk_le 5 i (fun z => absurd z (by omega)) (fun _ => ?_)
    refine pk_eq i t (fun e => k97 a2 (lz_Zw' hZ e)) (fun e => ?_)
    exact lz_bar hw (by omega) (k97 _ (lz_Zw hZ e (by omega)))
theorem lz_rem {p : Int32} : ∃ j, j < 5 ∧ (p &&& 255) - (p &&& 255) / 5 * 5 = nI j := by
  obtain ⟨j, j8, ej⟩ := pk_andE p (m := 255) 8 (by decide)
  have e : nI j - nI j / nI 5 * nI 5 = nI (j % 5) := pk_rem (by omega) (by omega) (by omega)
  rw [ej]
  exact ⟨j % 5, by omega, e⟩
theorem lz_rem1 {p : Int32} : ∃ j, j < 100 ∧ (p &&& 255) - (p &&& 255) / 100 * 100 = nI j := by
  obtain ⟨j, j8, ej⟩ := pk_andE p (m := 255) 8 (by decide)
  have e : nI j - nI j / nI 100 * nI 100 = nI (j % 100) := pk_rem (by omega) (by omega) (by omega)
  rw [ej]
  exact ⟨j % 100, by omega, e⟩
theorem lz_m5 {w : Nat} (h : w < 5) (k : Nat) (hk : k < 5) {y : Int32} (hy : y = nI k) : (nI w + y) - (nI w + y) / 5 * 5 = nI ((w + k) % 5) := by
  rw [hy, nI_add]
  have e : nI (w + k) - nI (w + k) / nI 5 * nI 5 = nI ((w + k) % 5) := pk_rem (by omega) (by omega) (by omega)
  exact e
theorem lz_lawOf {post : Int32 → St0 → Prop} {p0 p1 p2 p3 : Int32} (H : post 1 ()) : wpL_lawOf post 14 2788 () p0 p1 p2 p3 := by
  unfold wpL_lawOf
  refine ⟨by omega, by omega, 13, 2766, by omega, by omega, ?_⟩
  unfold wpX_init
  obtain ⟨w, hw, ew⟩ := lz_rem (p := p0)
  obtain ⟨t, ht, et⟩ := lz_rem (p := p1)
  obtain ⟨s, hs, es⟩ := lz_rem1 (p := p2)
  obtain ⟨u, hu, eu⟩ := lz_rem1 (p := p3)
  refine ⟨by omega, by omega, by omega, by omega, by omega, by omega, by omega, by omega, by omega, by omega, by omega, by omega, by omega, by omega, by omega, by omega, by omega, by omega, by omega, by omega, by omega, by omega, by omega, by omega, by omega, by omega, ?_⟩
  refine ⟨by decide, nm_r ew ⟨by decide, nm_r et ⟨by decide, nm_r (lz_m5 hw 1 (by omega) rfl) ⟨by decide, nm_r (lz_m5 ht 1 (by omega) rfl) ⟨by decide, nm_r (lz_m5 ht 2 (by omega) rfl) ⟨by decide, nm_r es ⟨by decide, nm_r eu ⟨6, ?_⟩⟩⟩⟩⟩⟩⟩⟩
  exact lz_74 hw ht hs hu H 5 0 _ (by omega) lz_Z0
theorem lz_cell {post : Int32 → Prop} {L : Nat} {xs : Nat → Int32} (hL : L ≤ 4) {y : Int32} (k : Nat) (hk : k < 5) (hy : y = nI k) (H : ∀ r, post r) : wpL_cellAt post L xs () y := by
  unfold wpL_cellAt
  exact pk_le L k (fun _ => H _) (fun z => ⟨pk_in k L z hy, H _⟩) rfl hy
theorem i_vc (xs : Nat → Int32) (L : Nat) (hL : L ≤ 4) : wpL_law (fun r => r = 1) L xs := by
  unfold wpL_law
  refine lz_cell hL 0 (by omega) rfl (fun r1 => lz_cell hL 1 (by omega) rfl (fun r2 => lz_cell hL 2 (by omega) rfl (fun r3 => lz_cell hL 3 (by omega) rfl (fun r4 => ⟨14, 2788, by omega, by omega, ?_⟩))))
  exact lz_lawOf rfl
end
