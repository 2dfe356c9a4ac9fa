section
/-- the machine: height, stack, cells, place, status, count -/
abbrev fz_M : Type := Nat × (Nat → Int32) × (Nat → Int32) × Nat × Int32 × Int32
/-- flat registers and cells -/
abbrev fz_W : Type := (Nat → Int32) × (Nat → Int32)
/-- one flat instruction: code, target, left, right -/
abbrev fz_Q : Type := Int32 × Int32 × Int32 × Int32
/-- does instruction k with argument j fault at height h? -/
def fz_flt (k j h : Nat) : Bool := match k with
  | 0 => decide (8 ≤ h)
  | 1 => decide (8 ≤ h) || decide (h ≤ j)
  | 2 => decide (8 ≤ h)
  | 3 => decide (h < 1)
  | 10 => decide (h < 1)
  | 11 => decide (h < 1)
  | 12 => false
  | 13 => false
  | _ => decide (h ≤ j)
/-- what an instruction that doesn't fault does -/
def fz_do (k : Nat) (v : Int32) (h : Nat) (F C : Nat → Int32) (p : Nat) (c : Int32) : fz_M := match k with
  | 0 => (h + 1, upd F h v, C, p + 1, 0, c + 1)
  | 1 => (h + 1, upd F h (F (h - 1 - v.toNatClampNeg)), C, p + 1, 0, c + 1)
  | 2 => (h + 1, upd F h (C v.toNatClampNeg), C, p + 1, 0, c + 1)
  | 3 => (h - 1, F, upd C v.toNatClampNeg (F (h - 1)), p + 1, 0, c + 1)
  | 4 => (h, upd (upd F (h - 1) (F (h - 1 - v.toNatClampNeg))) (h - 1 - v.toNatClampNeg) (F (h - 1)), C, p + 1, 0, c + 1)
  | 5 => (h, upd F (h - 1) (F (h - 1) + F (h - 1 - v.toNatClampNeg)), C, p + 1, 0, c + 1)
  | 6 => (h, upd F (h - 1) (F (h - 1) - F (h - 1 - v.toNatClampNeg)), C, p + 1, 0, c + 1)
  | 7 => (h, upd F (h - 1) (F (h - 1) * F (h - 1 - v.toNatClampNeg)), C, p + 1, 0, c + 1)
  | 8 => (h - 1, upd F (h - 1 - v.toNatClampNeg) (F (h - 1 - v.toNatClampNeg) + F (h - 1)), C, p + 1, 0, c + 1)
  | 9 => (h - 1, upd F (h - 1 - v.toNatClampNeg) (F (h - 1 - v.toNatClampNeg) - F (h - 1)), C, p + 1, 0, c + 1)
  | 10 => (h - 1, F, C, if F (h - 1) = 0 then v.toNatClampNeg else p + 1, 0, c + 1)
  | 11 => (h - 1, F, C, if 0 ≤ F (h - 1) then p + 1 else v.toNatClampNeg, 0, c + 1)
  | 12 => (h, F, C, v.toNatClampNeg, 0, c + 1)
  | _ => (h, F, C, p, 1, c + 1)
/-- one try -/
def fz_one (n : Nat) (o a : Nat → Int32) (M : fz_M) : fz_M := match M with
  | (h, F, C, p, st, c) => if st = 0 then (if n ≤ p then (h, F, C, p, 2, c) else if fz_flt (o p).toNatClampNeg (a p).toNatClampNeg h = true then (h, F, C, p, 2, c) else fz_do (o p).toNatClampNeg (a p) h F C p c) else (h, F, C, p, st, c)
def fz_run (n : Nat) (o a : Nat → Int32) : Nat → fz_M → fz_M
  | 0, M => M
  | k + 1, M => fz_one n o a (fz_run n o a k M)
/-- the same machine: the stacks agree below the height -/
def fz_eq (M M' : fz_M) : Prop := M.1 = M'.1 ∧ (∀ i, i < M.1 → M.2.1 i = M'.2.1 i) ∧ M.2.2 = M'.2.2
def fz_ins (x v : Int32) : Prop := ∃ k, k < 14 ∧ x = nI k ∧ (k = 0 ∨ k = 13 ∨ ∃ j, v = nI j ∧ j ≤ 31 ∧ (k < 10 → j ≤ 7) ∧ (8 ≤ k → k < 10 → 1 ≤ j))
def fz_ok (n : Nat) (o a : Nat → Int32) : Prop := n ≤ 32 ∧ ∀ i, i < n → fz_ins (o i) (a i)

theorem fz_14 {k : Nat} (h : k < 14) : k = 0 ∨ k = 1 ∨ k = 2 ∨ k = 3 ∨ k = 4 ∨ k = 5 ∨ k = 6 ∨ k = 7 ∨ k = 8 ∨ k = 9 ∨ k = 10 ∨ k = 11 ∨ k = 12 ∨ k = 13 := by omega
theorem fz_eq_refl (M : fz_M) : fz_eq M M := ⟨rfl, fun _ _ => rfl, rfl⟩
theorem fz_eq_trans {M N P : fz_M} (h : fz_eq M N) (g : fz_eq N P) : fz_eq M P :=
  ⟨h.1.trans g.1, fun i hi => (h.2.1 i hi).trans (g.2.1 i (h.1 ▸ hi)), h.2.2.trans g.2.2⟩
theorem fz_eq_symm {M N : fz_M} (h : fz_eq M N) : fz_eq N M :=
  ⟨h.1.symm, fun i hi => (h.2.1 i (h.1.symm ▸ hi)).symm, h.2.2.symm⟩
theorem fz_one_st {n : Nat} {o a : Nat → Int32} {h p : Nat} {F C : Nat → Int32} {st c : Int32} (hs : ¬ st = 0) : fz_one n o a (h, F, C, p, st, c) = (h, F, C, p, st, c) := if_neg hs
theorem fz_one_end {n : Nat} {o a : Nat → Int32} {h p : Nat} {F C : Nat → Int32} {c : Int32} (hp : n ≤ p) : fz_one n o a (h, F, C, p, 0, c) = (h, F, C, p, 2, c) := by
  unfold fz_one
  dsimp only
  rw [if_pos rfl, if_pos hp]
theorem fz_one_flt {n : Nat} {o a : Nat → Int32} {h p : Nat} {F C : Nat → Int32} {c : Int32} (hp : p < n) (hf : fz_flt (o p).toNatClampNeg (a p).toNatClampNeg h = true) : fz_one n o a (h, F, C, p, 0, c) = (h, F, C, p, 2, c) := by
  unfold fz_one
  dsimp only
  rw [if_pos rfl, if_neg (by omega), if_pos hf]
theorem fz_one_do {n : Nat} {o a : Nat → Int32} {h p : Nat} {F C : Nat → Int32} {c : Int32} (hp : p < n) (hf : fz_flt (o p).toNatClampNeg (a p).toNatClampNeg h = false) : fz_one n o a (h, F, C, p, 0, c) = fz_do (o p).toNatClampNeg (a p) h F C p c := by
  unfold fz_one
  dsimp only
  rw [if_pos rfl, if_neg (by omega), if_neg (by rw [hf]; decide)]
theorem fz_run_add (n : Nat) (o a : Nat → Int32) (i j : Nat) (M : fz_M) : fz_run n o a (i + j) M = fz_run n o a j (fz_run n o a i M) := by
  induction j with
  | zero => rfl
  | succ j ih =>
    show fz_one n o a (fz_run n o a (i + j) M) = fz_one n o a (fz_run n o a j (fz_run n o a i M))
    rw [ih]
theorem fz_run_st {n : Nat} {o a : Nat → Int32} (k : Nat) {M : fz_M} (hs : ¬ M.2.2.2.2.1 = 0) : fz_run n o a k M = M := by
  induction k with
  | zero => rfl
  | succ k ih =>
    show fz_one n o a (fz_run n o a k M) = M
    rw [ih]
    exact fz_one_st hs
theorem fz_do_eq {k : Nat} {v : Int32} {h : Nat} {F F' C : Nat → Int32} {p : Nat} {c : Int32} (hf : fz_flt k v.toNatClampNeg h = false) (e : ∀ i, i < h → F i = F' i) : fz_eq (fz_do k v h F C p c) (fz_do k v h F' C p c) := by
  generalize hj : v.toNatClampNeg = j at hf
  match k, hf with
  | 0, hf => 
    refine ⟨rfl, fun i hi => ?_, rfl⟩
    simp only [fz_do, upd] at hi ⊢
    grind
  | 1, hf =>
    refine ⟨rfl, fun i hi => ?_, rfl⟩
    simp only [fz_flt, Bool.or_eq_false_iff, decide_eq_false_iff_not] at hf
    simp only [fz_do, upd, hj] at hi ⊢
    grind
  | 2, hf =>
    refine ⟨rfl, fun i hi => ?_, rfl⟩
    simp only [fz_do, upd] at hi ⊢
    grind
  | 3, hf =>
    simp only [fz_flt, decide_eq_false_iff_not] at hf
    refine ⟨rfl, fun i hi => ?_, ?_⟩
    · simp only [fz_do] at hi ⊢
      exact e i (by omega)
    · simp only [fz_do]
      rw [e (h - 1) (by omega)]
  | 4, hf =>
    simp only [fz_flt, decide_eq_false_iff_not] at hf
    refine ⟨rfl, fun i hi => ?_, rfl⟩
    simp only [fz_do, upd, hj] at hi ⊢
    rw [e (h - 1) (by omega), e (h - 1 - j) (by omega), e i hi]
  | 5, hf =>
    simp only [fz_flt, decide_eq_false_iff_not] at hf
    refine ⟨rfl, fun i hi => ?_, rfl⟩
    simp only [fz_do, upd, hj] at hi ⊢
    rw [e (h - 1) (by omega), e (h - 1 - j) (by omega), e i hi]
  | 6, hf =>
    simp only [fz_flt, decide_eq_false_iff_not] at hf
    refine ⟨rfl, fun i hi => ?_, rfl⟩
    simp only [fz_do, upd, hj] at hi ⊢
    rw [e (h - 1) (by omega), e (h - 1 - j) (by omega), e i hi]
  | 7, hf =>
    simp only [fz_flt, decide_eq_false_iff_not] at hf
    refine ⟨rfl, fun i hi => ?_, rfl⟩
    simp only [fz_do, upd, hj] at hi ⊢
    rw [e (h - 1) (by omega), e (h - 1 - j) (by omega), e i hi]
  | 8, hf =>
    simp only [fz_flt, decide_eq_false_iff_not] at hf
    refine ⟨rfl, fun i hi => ?_, rfl⟩
    simp only [fz_do, upd, hj] at hi ⊢
    rw [e (h - 1) (by omega), e (h - 1 - j) (by omega), e i (by omega)]
  | 9, hf =>
    simp only [fz_flt, decide_eq_false_iff_not] at hf
    refine ⟨rfl, fun i hi => ?_, rfl⟩
    simp only [fz_do, upd, hj] at hi ⊢
    rw [e (h - 1) (by omega), e (h - 1 - j) (by omega), e i (by omega)]
  | 10, hf =>
    simp only [fz_flt, decide_eq_false_iff_not] at hf
    refine ⟨rfl, fun i hi => ?_, ?_⟩
    · simp only [fz_do] at hi ⊢
      exact e i (by omega)
    · simp only [fz_do]
      rw [e (h - 1) (by omega)]
  | 11, hf =>
    simp only [fz_flt, decide_eq_false_iff_not] at hf
    refine ⟨rfl, fun i hi => ?_, ?_⟩
    · simp only [fz_do] at hi ⊢
      exact e i (by omega)
    · simp only [fz_do]
      rw [e (h - 1) (by omega)]
  | 12, hf => exact ⟨rfl, e, rfl⟩
  | 13, hf => exact ⟨rfl, e, rfl⟩
  | k + 14, hf => exact ⟨rfl, e, rfl⟩
theorem fz_one_eq {n : Nat} {o a : Nat → Int32} {M M' : fz_M} (hh : fz_eq M M') : fz_eq (fz_one n o a M) (fz_one n o a M') := by
  obtain ⟨h, F, C, p, st, c⟩ := M
  obtain ⟨h', F', C', p', st', c'⟩ := M'
  obtain ⟨e1, e, e2⟩ := hh
  have e1' : h = h' := e1
  subst e1'
  have e2' : (C, p, st, c) = (C', p', st', c') := e2
  cases e2'
  by_cases hs : st = 0
  · subst hs
    by_cases hp : n ≤ p
    · rw [fz_one_end hp, fz_one_end hp]
      exact ⟨rfl, e, rfl⟩
    · cases hf : fz_flt (o p).toNatClampNeg (a p).toNatClampNeg h with
      | true =>
        rw [fz_one_flt (by omega) hf, fz_one_flt (by omega) hf]
        exact ⟨rfl, e, rfl⟩
      | false =>
        rw [fz_one_do (by omega) hf, fz_one_do (by omega) hf]
        exact fz_do_eq hf e
  · rw [fz_one_st hs, fz_one_st hs]
    exact ⟨rfl, e, rfl⟩
theorem fz_run_eq {n : Nat} {o a : Nat → Int32} (k : Nat) {M M' : fz_M} (hh : fz_eq M M') : fz_eq (fz_run n o a k M) (fz_run n o a k M') := by
  induction k with
  | zero => exact hh
  | succ k ih => exact fz_one_eq ih
/-- an instruction that doesn't fault keeps the bounds -/
theorem fz_do_bd {x v : Int32} {h p : Nat} {F C : Nat → Int32} {c : Int32} (hi : fz_ins x v) (hf : fz_flt x.toNatClampNeg v.toNatClampNeg h = false) (hh : h ≤ 8) (hp : p < 32) :
    (fz_do x.toNatClampNeg v h F C p c).1 ≤ 8 ∧ (fz_do x.toNatClampNeg v h F C p c).2.2.2.1 ≤ 32 := by
  obtain ⟨k, hk, rfl, hv⟩ := hi
  rw [nI_clamp (by omega)] at hf ⊢
  have hj : k = 12 ∨ k = 10 ∨ k = 11 → v.toNatClampNeg ≤ 31 := by
    intro hk2
    rcases hv with h0 | h0 | ⟨j, rfl, hj, _⟩
    · omega
    · omega
    · rw [nI_clamp (by omega)]
      exact hj
  rcases fz_14 hk with rfl | rfl | rfl | rfl | rfl | rfl | rfl | rfl | rfl | rfl | rfl | rfl | rfl | rfl
  · simp only [fz_flt, decide_eq_false_iff_not] at hf
    simp only [fz_do]
    omega
  · simp only [fz_flt, Bool.or_eq_false_iff, decide_eq_false_iff_not] at hf
    simp only [fz_do]
    omega
  · simp only [fz_flt, decide_eq_false_iff_not] at hf
    simp only [fz_do]
    omega
  · simp only [fz_do]
    omega
  · simp only [fz_do]
    omega
  · simp only [fz_do]
    omega
  · simp only [fz_do]
    omega
  · simp only [fz_do]
    omega
  · simp only [fz_do]
    omega
  · simp only [fz_do]
    omega
  · have := hj (by omega)
    simp only [fz_do]
    split <;> omega
  · have := hj (by omega)
    simp only [fz_do]
    split <;> omega
  · have := hj (by omega)
    simp only [fz_do]
    omega
  · simp only [fz_do]
    omega
theorem fz_one_bd {n : Nat} {o a : Nat → Int32} {M : fz_M} (hok : fz_ok n o a) (h1 : M.1 ≤ 8) (h2 : M.2.2.2.1 ≤ 32) : (fz_one n o a M).1 ≤ 8 ∧ (fz_one n o a M).2.2.2.1 ≤ 32 := by
  obtain ⟨h, F, C, p, st, c⟩ := M
  have h1' : h ≤ 8 := h1
  have h2' : p ≤ 32 := h2
  by_cases hs : st = 0
  · subst hs
    by_cases hp : n ≤ p
    · rw [fz_one_end hp]
      exact ⟨h1, h2⟩
    · cases hf : fz_flt (o p).toNatClampNeg (a p).toNatClampNeg h with
      | true =>
        rw [fz_one_flt (by omega) hf]
        exact ⟨h1, h2⟩
      | false =>
        rw [fz_one_do (by omega) hf]
        exact fz_do_bd (hok.2 p (by omega)) hf h1' (by have := hok.1; omega)
  · rw [fz_one_st hs]
    exact ⟨h1, h2⟩
theorem fz_run_bd {n : Nat} {o a : Nat → Int32} (k : Nat) {M : fz_M} (hok : fz_ok n o a) (h1 : M.1 ≤ 8) (h2 : M.2.2.2.1 ≤ 32) : (fz_run n o a k M).1 ≤ 8 ∧ (fz_run n o a k M).2.2.2.1 ≤ 32 := by
  induction k with
  | zero => exact ⟨h1, h2⟩
  | succ k ih => exact fz_one_bd hok ih.1 ih.2
end
section
def fz_cd (c t l r : Nat → Int32) : Nat → fz_Q := fun i => (c i, t i, l i, r i)
def fz_up (K : Nat → fz_Q) (e : Nat) (q : fz_Q) : Nat → fz_Q := fun i => if i = e then q else K i
/-- what one flat instruction does -/
def fz_wk (q : fz_Q) (w : fz_W) : fz_W := match q.1.toNatClampNeg with
  | 0 => (upd w.1 q.2.1.toNatClampNeg q.2.2.2, w.2)
  | 1 => (upd w.1 q.2.1.toNatClampNeg (w.1 q.2.2.1.toNatClampNeg), w.2)
  | 2 => (upd w.1 q.2.1.toNatClampNeg (w.1 q.2.2.1.toNatClampNeg + w.1 q.2.2.2.toNatClampNeg), w.2)
  | 3 => (upd w.1 q.2.1.toNatClampNeg (w.1 q.2.2.1.toNatClampNeg - w.1 q.2.2.2.toNatClampNeg), w.2)
  | 4 => (upd w.1 q.2.1.toNatClampNeg (w.1 q.2.2.1.toNatClampNeg * w.1 q.2.2.2.toNatClampNeg), w.2)
  | 5 => (upd w.1 q.2.1.toNatClampNeg (w.2 q.2.2.1.toNatClampNeg), w.2)
  | _ => (w.1, upd w.2 q.2.1.toNatClampNeg (w.1 q.2.2.1.toNatClampNeg))
def fz_ex (K : Nat → fz_Q) (s : Nat) : Nat → fz_W → fz_W
  | 0, w => w
  | m + 1, w => fz_wk (K (s + m)) (fz_ex K s m w)
def fz_wf (q : fz_Q) : Prop := ∃ k x y : Nat, q.1 = nI k ∧ q.2.1 = nI x ∧ q.2.2.1 = nI y ∧ k < 7 ∧ x < 10 ∧ y < 10 ∧ (k = 5 → y < 8) ∧ (k = 6 → x < 8) ∧ (2 ≤ k → k ≤ 4 → ∃ z : Nat, z < 10 ∧ q.2.2.2 = nI z)
def fz_sw (K : Nat → fz_Q) (s m : Nat) : Prop := ∀ i, i < m → fz_wf (K (s + i))
def fz_ag (e : Nat) (K K' : Nat → fz_Q) : Prop := ∀ i, i < e → K' i = K i
/-- the homes: different registers below 8 -/
def fz_H (d : Nat) (g : Nat → Int32) : Prop := (∀ h, h < d → ∃ r, r < 8 ∧ g h = nI r) ∧ (∀ h k, h < d → k < d → g h = g k → h = k)
/-- the stack, seen through the homes -/
def fz_vw (g : Nat → Int32) (w : fz_W) : Nat → Int32 := fun h => w.1 (g h).toNatClampNeg
/-- while translating: dn instructions from p0 at height d0 have become the m flat ones from s -/
def fz_T (n : Nat) (o a : Nat → Int32) (p0 d0 : Nat) (K : Nat → fz_Q) (s m p dn d : Nat) (g : Nat → Int32) : Prop :=
  d ≤ 8 ∧ fz_H d g ∧ fz_sw K s m ∧ m ≤ dn ∧ ∀ F C c, fz_eq (fz_run n o a dn (d0, F, C, p0, 0, c)) (d, fz_vw g (fz_ex K s m (F, C)), (fz_ex K s m (F, C)).2, p, 0, c + nI dn)
/-- leaving a block -/
def fz_out (q : fz_Q) (w : fz_W) (c : Int32) : fz_M :=
  (q.2.2.1.toNatClampNeg, w.1, w.2, (if q.1 = 8 then (if w.1 8 = 0 then q.2.2.2.toNatClampNeg else q.2.1.toNatClampNeg) else if q.1 = 9 then (if 0 ≤ w.1 8 then q.2.1.toNatClampNeg else q.2.2.2.toNatClampNeg) else q.2.1.toNatClampNeg), (if q.1 = 10 then 1 else if q.1 = 11 then 2 else 0), c)
def fz_tm (q : fz_Q) : Prop := ∃ k x y : Nat, q.1 = nI k ∧ q.2.1 = nI x ∧ q.2.2.1 = nI y ∧ 7 ≤ k ∧ k < 12 ∧ x ≤ 32 ∧ y ≤ 8 ∧ (k = 8 ∨ k = 9 → ∃ z : Nat, z ≤ 31 ∧ q.2.2.2 = nI z)
/-- a translated block: t tries from p at height d are the flat code from s -/
def fz_B (n : Nat) (o a : Nat → Int32) (K : Nat → fz_Q) (e p d s t dn : Nat) : Prop :=
  ∃ m, s + m < e ∧ fz_sw K s m ∧ fz_tm (K (s + m)) ∧ ∀ F C c, fz_eq (fz_run n o a t (d, F, C, p, 0, c)) (fz_out (K (s + m)) (fz_ex K s m (F, C)) (c + nI dn))

theorem fz_up_s {K : Nat → fz_Q} {e : Nat} {q : fz_Q} : fz_up K e q e = q := if_pos rfl
theorem fz_up_n {K : Nat → fz_Q} {e i : Nat} {q : fz_Q} (h : i ≠ e) : fz_up K e q i = K i := if_neg h
theorem fz_cd_up (c t l r : Nat → Int32) (e : Nat) (x y z v : Int32) : fz_cd (upd c e x) (upd t e y) (upd l e z) (upd r e v) = fz_up (fz_cd c t l r) e (x, y, z, v) := by
  funext i
  unfold fz_cd fz_up upd
  by_cases h : i = e
  · simp only [if_pos h]
  · simp only [if_neg h]
theorem fz_ag_refl (e : Nat) (K : Nat → fz_Q) : fz_ag e K K := fun _ _ => rfl
theorem fz_ag_trans {e e' : Nat} {K K' K'' : Nat → fz_Q} (h : fz_ag e K K') (g : fz_ag e' K' K'') (he : e ≤ e') : fz_ag e K K'' :=
  fun i hi => (g i (by omega)).trans (h i hi)
theorem fz_ag_up {e x : Nat} {K : Nat → fz_Q} {q : fz_Q} (h : e ≤ x) : fz_ag e K (fz_up K x q) := fun i hi => fz_up_n (by omega)
theorem fz_ex_ag {K K' : Nat → fz_Q} {s m : Nat} (h : ∀ i, i < m → K' (s + i) = K (s + i)) (w : fz_W) : fz_ex K' s m w = fz_ex K s m w := by
  induction m with
  | zero => rfl
  | succ m ih =>
    show fz_wk (K' (s + m)) (fz_ex K' s m w) = fz_wk (K (s + m)) (fz_ex K s m w)
    rw [ih (fun i hi => h i (by omega)), h m (by omega)]
theorem fz_sw_ag {K K' : Nat → fz_Q} {s m : Nat} (h : ∀ i, i < m → K' (s + i) = K (s + i)) (g : fz_sw K s m) : fz_sw K' s m :=
  fun i hi => by rw [h i hi]; exact g i hi
theorem fz_ex_up {K : Nat → fz_Q} {s m : Nat} {q : fz_Q} (w : fz_W) : fz_ex (fz_up K (s + m) q) s (m + 1) w = fz_wk q (fz_ex K s m w) := by
  show fz_wk (fz_up K (s + m) q (s + m)) (fz_ex (fz_up K (s + m) q) s m w) = fz_wk q (fz_ex K s m w)
  rw [fz_up_s, fz_ex_ag (K := K) (fun i hi => fz_up_n (by omega))]
theorem fz_ex_up0 {K : Nat → fz_Q} {s m : Nat} {q : fz_Q} (w : fz_W) : fz_ex (fz_up K (s + m) q) s m w = fz_ex K s m w :=
  fz_ex_ag (fun i hi => fz_up_n (by omega)) w
theorem fz_sw_up0 {K : Nat → fz_Q} {s m : Nat} {q : fz_Q} (h : fz_sw K s m) : fz_sw (fz_up K (s + m) q) s m :=
  fz_sw_ag (fun i hi => fz_up_n (by omega)) h
theorem fz_sw_up {K : Nat → fz_Q} {s m : Nat} {q : fz_Q} (h : fz_sw K s m) (hq : fz_wf q) : fz_sw (fz_up K (s + m) q) s (m + 1) := by
  intro i hi
  by_cases e : i = m
  · rw [e, fz_up_s]
    exact hq
  · rw [fz_up_n (by omega)]
    exact h i (by omega)
theorem fz_B_ag {n : Nat} {o a : Nat → Int32} {K K' : Nat → fz_Q} {e e' p d s t dn : Nat} (h : fz_B n o a K e p d s t dn) (ha : fz_ag e K K') (he : e ≤ e') : fz_B n o a K' e' p d s t dn := by
  obtain ⟨m, h1, h2, h3, h4⟩ := h
  refine ⟨m, by omega, fz_sw_ag (fun i hi => ha _ (by omega)) h2, by rw [ha _ h1]; exact h3, fun F C c => ?_⟩
  rw [ha _ h1, fz_ex_ag (K := K) (fun i hi => ha _ (by omega))]
  exact h4 F C c
theorem fz_T_0 {n : Nat} {o a : Nat → Int32} {p d : Nat} {K : Nat → fz_Q} {s : Nat} {g : Nat → Int32} (hd : d ≤ 8) (hg : ∀ h, h < 8 → g h = nI h) : fz_T n o a p d K s 0 p 0 d g := by
  refine ⟨hd, ⟨fun h hh => ⟨h, by omega, hg h (by omega)⟩, fun h k hh hk e => ?_⟩, fun i hi => absurd hi (by omega), by omega, fun F C c => ⟨rfl, fun i hi => ?_, ?_⟩⟩
  · rw [hg h (by omega), hg k (by omega)] at e
    exact (nI_eq (by omega) (by omega)).mp e
  · have hi' : i < d := hi
    show F i = F (g i).toNatClampNeg
    rw [hg i (by omega), nI_clamp (by omega)]
  · show (C, p, (0 : Int32), c) = (C, p, (0 : Int32), c + nI 0)
    rw [nI_0, Int32.add_zero]
theorem fz_T_step {n : Nat} {o a : Nat → Int32} {p0 d0 : Nat} {K : Nat → fz_Q} {s m p dn d : Nat} {g : Nat → Int32} (T : fz_T n o a p0 d0 K s m p dn d g) (hp : p < n) (nf : fz_flt (o p).toNatClampNeg (a p).toNatClampNeg d = false)
    {K' : Nat → fz_Q} {m' d' : Nat} {g' : Nat → Int32} (hd : d' ≤ 8) (hH : fz_H d' g') (hs : fz_sw K' s m') (hm : m' ≤ m + 1)
    (hv : ∀ w c, fz_eq (fz_do (o p).toNatClampNeg (a p) d (fz_vw g (fz_ex K s m w)) (fz_ex K s m w).2 p c) (d', fz_vw g' (fz_ex K' s m' w), (fz_ex K' s m' w).2, p + 1, 0, c + 1)) :
    fz_T n o a p0 d0 K' s m' (p + 1) (dn + 1) d' g' := by
  obtain ⟨t1, t2, t3, t4, t5⟩ := T
  refine ⟨hd, hH, hs, by omega, fun F C c => ?_⟩
  show fz_eq (fz_one n o a (fz_run n o a dn (d0, F, C, p0, 0, c))) _
  refine fz_eq_trans (fz_one_eq (t5 F C c)) ?_
  rw [fz_one_do hp nf]
  have := hv (F, C) (c + nI dn)
  rw [Int32.add_assoc, nI_1] at this
  exact this
theorem fz_B_of {n : Nat} {o a : Nat → Int32} {p0 d0 : Nat} {K : Nat → fz_Q} {s m p dn d : Nat} {g : Nat → Int32} (T : fz_T n o a p0 d0 K s m p dn d g)
    {K' : Nat → fz_Q} {m' e : Nat} (j i : Nat) (he : s + m' < e) (hs : fz_sw K' s m') (ht : fz_tm (K' (s + m')))
    (hv : ∀ w c, fz_eq (fz_run n o a j (d, fz_vw g (fz_ex K s m w), (fz_ex K s m w).2, p, 0, c)) (fz_out (K' (s + m')) (fz_ex K' s m' w) (c + nI i))) :
    fz_B n o a K' e p0 d0 s (dn + j) (dn + i) := by
  obtain ⟨t1, t2, t3, t4, t5⟩ := T
  refine ⟨m', he, hs, ht, fun F C c => ?_⟩
  rw [fz_run_add]
  refine fz_eq_trans (fz_run_eq j (t5 F C c)) ?_
  have := hv (F, C) (c + nI dn)
  rw [Int32.add_assoc, nI_add] at this
  exact this
/-! ### flat instructions -/
theorem fz_wk0 {x : Nat} {y z : Int32} (w : fz_W) (hx : x < 2 ^ 31) : fz_wk (nI 0, nI x, y, z) w = (upd w.1 x z, w.2) := by
  show (upd w.1 (nI x).toNatClampNeg z, w.2) = _
  rw [nI_clamp hx]
theorem fz_wk1 {x y : Nat} {z : Int32} (w : fz_W) (hx : x < 2 ^ 31) (hy : y < 2 ^ 31) : fz_wk (nI 1, nI x, nI y, z) w = (upd w.1 x (w.1 y), w.2) := by
  show (upd w.1 (nI x).toNatClampNeg (w.1 (nI y).toNatClampNeg), w.2) = _
  rw [nI_clamp hx, nI_clamp hy]
theorem fz_wk2 {x y z : Nat} (w : fz_W) (hx : x < 2 ^ 31) (hy : y < 2 ^ 31) (hz : z < 2 ^ 31) : fz_wk (nI 2, nI x, nI y, nI z) w = (upd w.1 x (w.1 y + w.1 z), w.2) := by
  show (upd w.1 (nI x).toNatClampNeg (w.1 (nI y).toNatClampNeg + w.1 (nI z).toNatClampNeg), w.2) = _
  rw [nI_clamp hx, nI_clamp hy, nI_clamp hz]
theorem fz_wk3 {x y z : Nat} (w : fz_W) (hx : x < 2 ^ 31) (hy : y < 2 ^ 31) (hz : z < 2 ^ 31) : fz_wk (nI 3, nI x, nI y, nI z) w = (upd w.1 x (w.1 y - w.1 z), w.2) := by
  show (upd w.1 (nI x).toNatClampNeg (w.1 (nI y).toNatClampNeg - w.1 (nI z).toNatClampNeg), w.2) = _
  rw [nI_clamp hx, nI_clamp hy, nI_clamp hz]
theorem fz_wk4 {x y z : Nat} (w : fz_W) (hx : x < 2 ^ 31) (hy : y < 2 ^ 31) (hz : z < 2 ^ 31) : fz_wk (nI 4, nI x, nI y, nI z) w = (upd w.1 x (w.1 y * w.1 z), w.2) := by
  show (upd w.1 (nI x).toNatClampNeg (w.1 (nI y).toNatClampNeg * w.1 (nI z).toNatClampNeg), w.2) = _
  rw [nI_clamp hx, nI_clamp hy, nI_clamp hz]
theorem fz_wk5 {x y : Nat} {z : Int32} (w : fz_W) (hx : x < 2 ^ 31) (hy : y < 2 ^ 31) : fz_wk (nI 5, nI x, nI y, z) w = (upd w.1 x (w.2 y), w.2) := by
  show (upd w.1 (nI x).toNatClampNeg (w.2 (nI y).toNatClampNeg), w.2) = _
  rw [nI_clamp hx, nI_clamp hy]
theorem fz_wk6 {x y : Nat} {z : Int32} (w : fz_W) (hx : x < 2 ^ 31) (hy : y < 2 ^ 31) : fz_wk (nI 6, nI x, nI y, z) w = (w.1, upd w.2 x (w.1 y)) := by
  show (w.1, upd w.2 (nI x).toNatClampNeg (w.1 (nI y).toNatClampNeg)) = _
  rw [nI_clamp hx, nI_clamp hy]
/-! ### the stack seen through the homes -/
theorem fz_H_nat {d : Nat} {g : Nat → Int32} (H : fz_H d g) {h : Nat} (hh : h < d) : (g h).toNatClampNeg < 8 ∧ g h = nI (g h).toNatClampNeg := by
  obtain ⟨r, hr, e⟩ := H.1 h hh
  rw [e, nI_clamp (by omega)]
  exact ⟨hr, rfl⟩
theorem fz_H_ne {d : Nat} {g : Nat → Int32} (H : fz_H d g) {h k : Nat} (hh : h < d) (hk : k < d) (hne : h ≠ k) : (g h).toNatClampNeg ≠ (g k).toNatClampNeg := by
  intro e
  apply hne
  apply H.2 h k hh hk
  rw [(fz_H_nat H hh).2, (fz_H_nat H hk).2, e]
theorem fz_H_le {d d' : Nat} {g : Nat → Int32} (H : fz_H d g) (hd : d' ≤ d) : fz_H d' g :=
  ⟨fun h hh => H.1 h (by omega), fun h k hh hk e => H.2 h k (by omega) (by omega) e⟩
theorem fz_H_push {d r : Nat} {g : Nat → Int32} (H : fz_H d g) (hr : r < 8) (hf : ∀ h, h < d → g h ≠ nI r) : fz_H (d + 1) (upd g d (nI r)) := by
  refine ⟨fun h hh => ?_, fun h k hh hk e => ?_⟩
  · by_cases e : h = d
    · rw [e, pk_us]
      exact ⟨r, hr, rfl⟩
    · rw [pk_un e]
      exact H.1 h (by omega)
  · by_cases e1 : h = d
    · by_cases e2 : k = d
      · omega
      · rw [e1, pk_us, pk_un e2] at e
        exact absurd e.symm (hf k (by omega))
    · by_cases e2 : k = d
      · rw [e2, pk_us, pk_un e1] at e
        exact absurd e (hf h (by omega))
      · rw [pk_un e1, pk_un e2] at e
        exact H.2 h k (by omega) (by omega) e
theorem fz_H_xch {d i j : Nat} {g : Nat → Int32} (H : fz_H d g) (hi : i < d) (hj : j < d) : fz_H d (upd (upd g i (g j)) j (g i)) := by
  have key : ∀ h, h < d → upd (upd g i (g j)) j (g i) h = g (if h = j then i else if h = i then j else h) := by
    intro h _
    unfold upd
    by_cases e1 : h = j
    · simp only [if_pos e1]
    · by_cases e2 : h = i
      · simp only [if_neg e1, if_pos e2]
      · simp only [if_neg e1, if_neg e2]
  refine ⟨fun h hh => ?_, fun h k hh hk e => ?_⟩
  · rw [key h hh]
    apply H.1
    split
    · exact hi
    · split
      · exact hj
      · exact hh
  · rw [key h hh, key k hk] at e
    have := H.2 _ _ (by split <;> (try split) <;> omega) (by split <;> (try split) <;> omega) e
    split at this <;> split at this <;> (try split at this) <;> (try split at this) <;> omega
theorem fz_v_push {d r p : Nat} {g : Nat → Int32} {w : fz_W} {x st c : Int32} {C : Nat → Int32} (H : fz_H d g) (hr : r < 8) (hf : ∀ h, h < d → g h ≠ nI r) :
    fz_eq (d + 1, upd (fz_vw g w) d x, C, p, st, c) (d + 1, fz_vw (upd g d (nI r)) (upd w.1 r x, w.2), C, p, st, c) := by
  refine ⟨rfl, fun i hi => ?_, rfl⟩
  have hi' : i < d + 1 := hi
  show upd (fz_vw g w) d x i = (upd w.1 r x) (upd g d (nI r) i).toNatClampNeg
  by_cases e : i = d
  · rw [e, pk_us, pk_us, nI_clamp (by omega), pk_us]
  · rw [pk_un e, pk_un e, pk_un]
    · rfl
    · intro z
      apply hf i (by omega)
      rw [(fz_H_nat H (show i < d by omega)).2, z]
theorem fz_v_set {d d' i p : Nat} {g : Nat → Int32} {w : fz_W} {x st c : Int32} {C : Nat → Int32} (H : fz_H d g) (hd : d' ≤ d) (hi : i < d) :
    fz_eq (d', upd (fz_vw g w) i x, C, p, st, c) (d', fz_vw g (upd w.1 (g i).toNatClampNeg x, w.2), C, p, st, c) := by
  refine ⟨rfl, fun k hk => ?_, rfl⟩
  have hk' : k < d' := hk
  show upd (fz_vw g w) i x k = (upd w.1 (g i).toNatClampNeg x) (g k).toNatClampNeg
  by_cases e : k = i
  · rw [e, pk_us, pk_us]
  · rw [pk_un e, pk_un (fz_H_ne H (by omega) hi e)]
    rfl
theorem fz_v_xch {d i j p : Nat} {g : Nat → Int32} {w : fz_W} {st c : Int32} {C : Nat → Int32} :
    fz_eq (d, upd (upd (fz_vw g w) i (fz_vw g w j)) j (fz_vw g w i), C, p, st, c) (d, fz_vw (upd (upd g i (g j)) j (g i)) w, C, p, st, c) := by
  refine ⟨rfl, fun k _ => ?_, rfl⟩
  show upd (upd (fz_vw g w) i (fz_vw g w j)) j (fz_vw g w i) k = w.1 (upd (upd g i (g j)) j (g i) k).toNatClampNeg
  unfold upd fz_vw
  by_cases e1 : k = j
  · simp only [if_pos e1]
  · by_cases e2 : k = i
    · simp only [if_neg e1, if_pos e2]
    · simp only [if_neg e1, if_neg e2]
end
section
/-- straightening, so far: every value is where the new homes say, the register 8 and the cells are as they were -/
def fz_ST (s d : Nat) (K : Nat → fz_Q) (m : Nat) (g : Nat → Int32) (K' : Nat → fz_Q) (m' : Nat) (g' : Nat → Int32) : Prop :=
  m ≤ m' ∧ fz_ag (s + m) K K' ∧ fz_sw K' s m' ∧ fz_H d g' ∧ ∀ w, (∀ h, h < d → fz_vw g' (fz_ex K' s m' w) h = fz_vw g (fz_ex K s m w) h) ∧ (fz_ex K' s m' w).1 8 = (fz_ex K s m w).1 8 ∧ (fz_ex K' s m' w).2 = (fz_ex K s m w).2
theorem fz_ST_refl {s d : Nat} {K : Nat → fz_Q} {m : Nat} {g : Nat → Int32} (hs : fz_sw K s m) (hH : fz_H d g) : fz_ST s d K m g K m g :=
  ⟨Nat.le_refl m, fz_ag_refl _ _, hs, hH, fun _ => ⟨fun _ _ => rfl, rfl, rfl⟩⟩
theorem fz_ST_trans {s d : Nat} {K K1 K2 : Nat → fz_Q} {m m1 m2 : Nat} {g g1 g2 : Nat → Int32} (h : fz_ST s d K m g K1 m1 g1) (h' : fz_ST s d K1 m1 g1 K2 m2 g2) : fz_ST s d K m g K2 m2 g2 := by
  obtain ⟨x1, x2, x3, x4, x5⟩ := h
  obtain ⟨y1, y2, y3, y4, y5⟩ := h'
  exact ⟨by omega, fz_ag_trans x2 y2 (by omega), y3, y4, fun w => ⟨fun h hh => ((y5 w).1 h hh).trans ((x5 w).1 h hh), (y5 w).2.1.trans (x5 w).2.1, (y5 w).2.2.trans (x5 w).2.2⟩⟩
theorem fz_wf1 {x y : Nat} {z : Int32} (hx : x < 10) (hy : y < 10) : fz_wf (nI 1, nI x, nI y, z) :=
  ⟨1, x, y, rfl, rfl, rfl, by omega, hx, hy, by omega, by omega, by omega⟩
theorem fz_H_is {d : Nat} {g : Nat → Int32} (H : fz_H d g) {k r : Nat} (hk : k < d) (hr : r < 8) (h : g k ≠ nI r) : (g k).toNatClampNeg ≠ r := by
  intro z
  apply h
  rw [(fz_H_nat H hk).2, z]
theorem fz_H_put {d h r : Nat} {g : Nat → Int32} (H : fz_H d g) (hr : r < 8) (hf : ∀ k, k < d → k ≠ h → g k ≠ nI r) : fz_H d (upd g h (nI r)) := by
  refine ⟨fun k hk => ?_, fun k j hk hj e => ?_⟩
  · by_cases e : k = h
    · rw [e, pk_us]
      exact ⟨r, hr, rfl⟩
    · rw [pk_un e]
      exact H.1 k hk
  · by_cases e1 : k = h
    · by_cases e2 : j = h
      · omega
      · rw [e1, pk_us, pk_un e2] at e
        exact absurd e.symm (hf j hj e2)
    · by_cases e2 : j = h
      · rw [e2, pk_us, pk_un e1] at e
        exact absurd e (hf k hk e1)
      · rw [pk_un e1, pk_un e2] at e
        exact H.2 k j hk hj e
theorem fz_ST_copy {s d : Nat} {K : Nat → fz_Q} {m : Nat} {g : Nat → Int32} (hs : fz_sw K s m) (H : fz_H d g) {h f : Nat} (hh : h < d) (hd : d ≤ 8) (hf : f < 8) (e : g h = nI f) (hn : ∀ k, k < d → g k ≠ nI h) :
    fz_ST s d K m g (fz_up K (s + m) (nI 1, nI h, nI f, 0)) (m + 1) (upd g h (nI h)) := by
  refine ⟨by omega, fz_ag_up (by omega), fz_sw_up hs (fz_wf1 (by omega) (by omega)), fz_H_put H (by omega) (fun k hk _ => hn k hk), fun w => ?_⟩
  rw [fz_ex_up, fz_wk1 _ (by omega) (by omega)]
  generalize fz_ex K s m w = v
  refine ⟨fun k hk => ?_, ?_, rfl⟩
  · show upd v.1 h (v.1 f) (upd g h (nI h) k).toNatClampNeg = v.1 (g k).toNatClampNeg
    by_cases ek : k = h
    · rw [ek, pk_us, nI_clamp (by omega), pk_us, e, nI_clamp (by omega)]
    · rw [pk_un ek, pk_un (fz_H_is H hk (by omega) (hn k hk))]
  · show upd v.1 h (v.1 f) 8 = v.1 8
    rw [pk_un (by omega)]
theorem fz_ST_swap {s d : Nat} {K : Nat → fz_Q} {m : Nat} {g : Nat → Int32} (hs : fz_sw K s m) (H : fz_H d g) {h f k : Nat} (hh : h < d) (hd : d ≤ 8) (hf : f < 8) (hfh : f ≠ h) (e : g h = nI f) (hk : k < d) (ek : g k = nI h) :
    fz_ST s d K m g (fz_up (fz_up (fz_up K (s + m) (nI 1, nI 9, nI h, 0)) (s + (m + 1)) (nI 1, nI h, nI f, 0)) (s + (m + 2)) (nI 1, nI f, nI 9, 0)) (m + 3) (upd (upd g k (nI f)) h (nI h)) := by
  have hkh : k ≠ h := by
    intro z
    rw [z, e] at ek
    exact hfh ((nI_eq (by omega) (by omega)).mp ek)
  have H1 : fz_H d (upd (upd g k (nI f)) h (nI h)) := by
    have := fz_H_xch H hk hh
    rw [e, ek] at this
    exact this
  refine ⟨by omega, ?_, ?_, H1, fun w => ?_⟩
  · exact fz_ag_trans (e' := s + m) (fz_ag_trans (e' := s + m) (fz_ag_up (by omega)) (fz_ag_up (by omega)) (by omega)) (fz_ag_up (by omega)) (by omega)
  · exact fz_sw_up (fz_sw_up (fz_sw_up hs (fz_wf1 (by omega) (by omega))) (fz_wf1 (by omega) (by omega))) (fz_wf1 (by omega) (by omega))
  rw [fz_ex_up (m := m + 2), fz_ex_up (m := m + 1), fz_ex_up, fz_wk1 _ (by omega) (by omega), fz_wk1 _ (by omega) (by omega), fz_wk1 _ (by omega) (by omega)]
  generalize fz_ex K s m w = v
  have q9 : upd (upd (upd v.1 9 (v.1 h)) h (upd v.1 9 (v.1 h) f)) f (upd (upd v.1 9 (v.1 h)) h (upd v.1 9 (v.1 h) f) 9) = upd (upd (upd v.1 9 (v.1 h)) h (v.1 f)) f (v.1 h) := by
    rw [pk_un (show f ≠ 9 by omega), pk_un (show 9 ≠ h by omega), pk_us]
  rw [q9]
  refine ⟨fun j hj => ?_, ?_, rfl⟩
  · show upd (upd (upd v.1 9 (v.1 h)) h (v.1 f)) f (v.1 h) (upd (upd g k (nI f)) h (nI h) j).toNatClampNeg = v.1 (g j).toNatClampNeg
    by_cases e1 : j = h
    · rw [e1, pk_us, nI_clamp (by omega), pk_un (fun z => hfh z.symm), pk_us, e, nI_clamp (by omega)]
    · by_cases e2 : j = k
      · rw [e2, pk_un hkh, pk_us, nI_clamp (by omega), pk_us, ek, nI_clamp (by omega)]
      · have n1 : (g j).toNatClampNeg ≠ f := fz_H_is H hj hf (fun z => e1 (H.2 j h hj hh (z.trans e.symm)))
        have n2 : (g j).toNatClampNeg ≠ h := fz_H_is H hj (by omega) (fun z => e2 (H.2 j k hj hk (z.trans ek.symm)))
        have n3 := (fz_H_nat H hj).1
        rw [pk_un e1, pk_un e2, pk_un n1, pk_un n2, pk_un (by omega)]
  · show upd (upd (upd v.1 9 (v.1 h)) h (v.1 f)) f (v.1 h) 8 = v.1 8
    rw [pk_un (by omega), pk_un (by omega), pk_un (by omega)]
/-! ### narrow numbers, masks, the free register -/
theorem fz_b8 : ∀ k, k < 128 → (nI k).toInt8.toInt32 = nI k := by decide +kernel
theorem fz_s16 : ∀ k, k < 1024 → (nI k).toInt16.toInt32 = nI k := by decide +kernel
theorem fz_or : ∀ m, m < 256 → ∀ r, r < 8 → nI m ||| ((1 : Int32) <<< (nI r &&& 31)) = nI (m ||| 2 ^ r) ∧ m ||| 2 ^ r < 256 := by decide +kernel
theorem fz_bit : ∀ m, m < 256 → ∀ r, r < 8 → (((nI m >>> (nI r &&& 31)) &&& 1) = 0 ↔ m.testBit r = false) := by decide +kernel
theorem fz_hole : ∀ d (f : Nat → Nat), (∀ r, r < d + 1 → ∃ h, h < d ∧ f h = r) → False := by
  intro d
  induction d with
  | zero =>
    intro f h
    obtain ⟨x, hx, _⟩ := h 0 (by omega)
    omega
  | succ d ih =>
    intro f h
    apply ih (fun x => if f x = d + 1 then f d else f x)
    intro r hr
    obtain ⟨x, hx, ex⟩ := h r (by omega)
    by_cases hxd : x = d
    · obtain ⟨y, hy, ey⟩ := h (d + 1) (by omega)
      by_cases hyd : y = d
      · subst hxd
        subst hyd
        omega
      · refine ⟨y, by omega, ?_⟩
        rw [if_pos ey, ← hxd, ex]
    · refine ⟨x, by omega, ?_⟩
      rw [if_neg (by omega), ex]
end
section
theorem fw_m1 {h : Nat} (hh : 1 ≤ h) : nI h - 1 = nI (h - 1) := pk_sub (b := 1) hh
theorem fw_forget {post : St1 → Prop} {len hgt pc st cnt bc ce dn : Int32} {a1 a2 a3 a4 a5 a6 a7 a8 a9 a10 a11 a12 a13 : Nat → Int32} (H : ∀ b, (∀ i, i < 297 → b i = -1) → post (len, hgt, pc, st, cnt, 0, 0, dn, a1, a2, a3, a4, b, a6, a7, a8, a9, a10, a11, a12, a13)) : wpX_forgetBlocks post (len, hgt, pc, st, cnt, bc, ce, dn, a1, a2, a3, a4, a5, a6, a7, a8, a9, a10, a11, a12, a13) :=
  pk_loop (fun n i s => wX_forgetBlocks_2 post len hgt pc st cnt bc ce dn n (nI i) a1 a2 a3 a4 s a6 a7 a8 a9 a10 a11 a12 a13) (fun i s => ∀ j, j < i → s j = -1) 297 0 a5 (by omega) (fun j hj => absurd hj (by omega))
    (fun n s h => pk_le 297 297 (fun _ => H s h) (fun z => absurd z (by omega)))
    (fun n i s hi h hw => pk_le 297 i (fun z => absurd z (by omega)) (fun _ => ⟨pk_in i 297 (by omega), nm_r (by rw [nI_clamp (by omega)]) (nm_r (nI_1 i) (hw (upd s i (-1)) (fun j hj => by
      by_cases e : j = i
      · rw [e, pk_us]
      · rw [pk_un e]
        exact h j (by omega))))⟩))
theorem fw_write {post : St1 → Prop} {len hgt pc st cnt bc dn : Int32} {a1 a2 a3 a4 a5 a6 a7 a8 a9 a10 a11 a12 a13 : Nat → Int32} {e k x y : Nat} {z : Int32} (he : e < 640) (hk : k < 128) (hx : x < 128) (hy : y < 128)
    (H : ∀ c t l r, fz_cd c t l r = fz_up (fz_cd a9 a10 a11 a12) e (nI k, nI x, nI y, z) → post (len, hgt, pc, st, cnt, bc, nI (e + 1), dn, a1, a2, a3, a4, a5, a6, a7, a8, c, t, l, r, a13)) :
    wpX_write post (len, hgt, pc, st, cnt, bc, nI e, dn, a1, a2, a3, a4, a5, a6, a7, a8, a9, a10, a11, a12, a13) (nI k) (nI x) (nI y) z := by
  unfold wpX_write
  dsimp only
  rw [nI_clamp (show e < 2 ^ 31 by omega), fz_b8 k hk, fz_b8 x hx, fz_b8 y hy]
  have hi : vp_in (nI e) 640 := vp_in_nI he (by omega)
  exact ⟨hi, nm_e ⟨hi, nm_e ⟨hi, nm_e ⟨hi, nm_e (nm_r (nI_1 e) (H _ _ _ _ (fz_cd_up a9 a10 a11 a12 e _ _ _ _)))⟩⟩⟩⟩
/-! ### straighten -/
theorem fw_st110 {post : St1 → Prop} {J2 : Int32 → Int32 → Int32 → Int32 → Int32 → Int32 → Int32 → Int32 → Int32 → (Nat → Int32) → (Nat → Int32) → (Nat → Int32) → (Nat → Int32) → (Nat → Int32) → (Nat → Int32) → (Nat → Int32) → (Nat → Int32) → (Nat → Int32) → (Nat → Int32) → (Nat → Int32) → (Nat → Int32) → (Nat → Int32) → Prop} {len hgt pc st cnt bc ce dn : Int32} {a1 a2 a3 a4 a5 a6 a7 a8 a9 a10 a11 a12 a13 : Nat → Int32} {h : Nat} (hh : h < 8) (H : J2 (nI (h + 1)) len hgt pc st cnt bc ce dn a1 a2 a3 a4 a5 a6 a7 a8 a9 a10 a11 a12 (upd a13 h (nI h))) : wX_straighten_110 post J2 (nI h) len hgt pc st cnt bc ce dn a1 a2 a3 a4 a5 a6 a7 a8 a9 a10 a11 a12 a13 := by
  unfold wX_straighten_110
  refine ⟨pk_in h 8 hh, ?_⟩
  rw [nI_clamp (show h < 2 ^ 31 by omega), fz_b8 h (by omega)]
  exact nm_e (nm_r (nI_1 h) H)
theorem fw_st32 {post : St1 → Prop} {J2 : Int32 → Int32 → Int32 → Int32 → Int32 → Int32 → Int32 → Int32 → Int32 → (Nat → Int32) → (Nat → Int32) → (Nat → Int32) → (Nat → Int32) → (Nat → Int32) → (Nat → Int32) → (Nat → Int32) → (Nat → Int32) → (Nat → Int32) → (Nat → Int32) → (Nat → Int32) → (Nat → Int32) → (Nat → Int32) → Prop} {len hgt pc st cnt bc : Int32} {a1 a2 a3 a4 a5 a6 a7 a8 a9 a10 a11 a12 a13 : Nat → Int32} {h f d e : Nat} (hd : d ≤ 8) (hh : h < d) (hf : f < 8) (he : e + 3 ≤ 640)
    (HA : (∀ k, h < k → k < d → a13 k ≠ nI h) → ∀ c t l r, fz_cd c t l r = fz_up (fz_cd a9 a10 a11 a12) e (nI 1, nI h, nI f, 0) → J2 (nI (h + 1)) len hgt pc st cnt bc (nI (e + 1)) (nI d) a1 a2 a3 a4 a5 a6 a7 a8 c t l r (upd a13 h (nI h)))
    (HB : ∀ k, h < k → k < d → a13 k = nI h → ∀ c t l r, fz_cd c t l r = fz_up (fz_up (fz_up (fz_cd a9 a10 a11 a12) e (nI 1, nI 9, nI h, 0)) (e + 1) (nI 1, nI h, nI f, 0)) (e + 2) (nI 1, nI f, nI 9, 0) → J2 (nI (h + 1)) len hgt pc st cnt bc (nI (e + 3)) (nI d) a1 a2 a3 a4 a5 a6 a7 a8 c t l r (upd (upd a13 k (nI f)) h (nI h))) :
    ∃ n, wX_straighten_32 post J2 (nI h) (nI f) len hgt pc st cnt bc (nI e) (nI d) a1 a2 a3 a4 a5 a6 a7 a8 a9 a10 a11 a12 a13 n (-1) (nI (h + 1)) := by
  refine pk_loop (fun n i s => wX_straighten_32 post J2 (nI h) (nI f) len hgt pc st cnt bc (nI e) (nI d) a1 a2 a3 a4 a5 a6 a7 a8 a9 a10 a11 a12 a13 n s (nI i)) (fun i s => h < i ∧ ((s = -1 ∧ ∀ k, h < k → k < i → a13 k ≠ nI h) ∨ (∃ k, h < k ∧ k < i ∧ a13 k = nI h ∧ s = nI k))) d (h + 1) (-1) (by omega) ⟨by omega, Or.inl ⟨rfl, fun k h1 h2 => absurd h1 (by omega)⟩⟩ ?_ ?_
  · intro n s hI
    refine pk_le d d (fun _ => ?_) (fun z => absurd z (by omega))
    rcases hI with ⟨_, ⟨rfl, hn⟩ | ⟨k, h1, h2, h3, rfl⟩⟩
    · refine br_t (by decide) ?_
      refine fw_write (k := 1) (x := h) (y := f) (e := e) (by omega) (by omega) (by omega) (by omega) (fun c t l r E => ?_)
      exact fw_st110 (by omega) (HA hn c t l r E)
    · refine br_f (nI_pos (by omega)) ?_
      refine fw_write (k := 1) (x := 9) (y := h) (e := e) (by omega) (by omega) (by omega) (by omega) (fun c t l r E => ?_)
      refine fw_write (k := 1) (x := h) (y := f) (e := e + 1) (by omega) (by omega) (by omega) (by omega) (fun c1 t1 l1 r1 E1 => ?_)
      refine fw_write (k := 1) (x := f) (y := 9) (e := e + 1 + 1) (by omega) (by omega) (by omega) (by omega) (fun c2 t2 l2 r2 E2 => ?_)
      refine ⟨pk_in k 8 (by omega), ?_⟩
      refine nm_r (e' := upd a13 k (nI f)) (by rw [nI_clamp (by omega), fz_b8 f (by omega)]) ?_
      refine fw_st110 (by omega) (HB k h1 h2 h3 c2 t2 l2 r2 ?_)
      rw [E2, E1, E]
  · intro n i s hi hI hw
    refine pk_le d i (fun z => absurd z (by omega)) (fun _ => ⟨pk_in i 8 (by omega), ?_⟩)
    have ei : a13 (nI i).toNatClampNeg = a13 i := by rw [nI_clamp (by omega)]
    refine br_c (fun z => nm_r (nI_1 i) (hw _ ?_)) (fun z => nm_r (nI_1 i) (hw _ ?_))
    · rw [ei] at z
      exact ⟨by omega, Or.inr ⟨i, hI.1, by omega, z, rfl⟩⟩
    · rw [ei] at z
      refine ⟨by omega, ?_⟩
      rcases hI with ⟨_, ⟨rfl, hn⟩ | ⟨k, h1, h2, h3, rfl⟩⟩
      · refine Or.inl ⟨rfl, fun k h1 h2 => ?_⟩
        by_cases e : k = i
        · rw [e]
          exact z
        · exact hn k h1 (by omega)
      · exact Or.inr ⟨k, h1, by omega, h3, rfl⟩
theorem fw_st2 {post : St1 → Prop} {len hgt pc st cnt bc : Int32} {a1 a2 a3 a4 a5 a6 a7 a8 a9 a10 a11 a12 a13 : Nat → Int32} {s m d : Nat} (hd : d ≤ 8) (hr : s + m + 24 ≤ 640)
    (H : ∀ m' c t l r g, m' ≤ m + 24 → fz_ST s d (fz_cd a9 a10 a11 a12) m a13 (fz_cd c t l r) m' g → (∀ k, k < d → g k = nI k) → post (len, hgt, pc, st, cnt, bc, nI (s + m'), nI d, a1, a2, a3, a4, a5, a6, a7, a8, c, t, l, r, g)) :
    ∀ (fu i m' : Nat) (c t l r g : Nat → Int32), i ≤ d → d - i < fu → m' ≤ m + 3 * i → fz_ST s d (fz_cd a9 a10 a11 a12) m a13 (fz_cd c t l r) m' g → (∀ k, k < i → g k = nI k) →
      wX_straighten_2 post fu (nI i) len hgt pc st cnt bc (nI (s + m')) (nI d) a1 a2 a3 a4 a5 a6 a7 a8 c t l r g := by
  intro fu
  induction fu with
  | zero =>
    intro i m' c t l r g h1 h2
    omega
  | succ fu ih =>
    intro i m' c t l r g h1 h2 h3 hS hk
    refine pk_le d i (fun z => ?_) (fun z => ?_)
    · exact H m' c t l r g (by omega) hS (fun k hk' => hk k (by omega))
    · obtain ⟨f, hf, ef⟩ := hS.2.2.2.1.1 i z
      refine ⟨pk_in i 8 (by omega), nm_r (e' := nI f) (by rw [nI_clamp (by omega)]; exact ef) ?_⟩
      refine pk_eq f i (fun y => nm_r (nI_1 i) ?_) (fun y => nm_r (nI_1 i) ?_)
      · refine ih (i + 1) m' c t l r g (by omega) (by omega) (by omega) hS (fun k hk' => ?_)
        by_cases e : k = i
        · rw [e, ef, y]
        · exact hk k (by omega)
      · refine fw_st32 (e := s + m') hd z hf (by omega) (fun hn c' t' l' r' E => ?_) (fun k k1 k2 k3 c' t' l' r' E => ?_)
        · refine ih (i + 1) (m' + 1) c' t' l' r' _ (by omega) (by omega) (by omega) ?_ (fun k hk' => ?_)
          · rw [E]
            refine fz_ST_trans hS (fz_ST_copy hS.2.2.1 hS.2.2.2.1 z hd hf ef (fun k hk' => ?_))
            by_cases e1 : k = i
            · rw [e1, ef]
              exact fun w => y ((nI_eq (by omega) (by omega)).mp w)
            · by_cases e2 : k < i
              · rw [hk k e2]
                exact fun w => e1 ((nI_eq (by omega) (by omega)).mp w)
              · exact hn k (by omega) hk'
          · by_cases e : k = i
            · rw [e, pk_us]
            · rw [pk_un e]
              exact hk k (by omega)
        · refine ih (i + 1) (m' + 3) c' t' l' r' _ (by omega) (by omega) (by omega) ?_ (fun j hj => ?_)
          · rw [E]
            exact fz_ST_trans hS (fz_ST_swap hS.2.2.1 hS.2.2.2.1 z hd hf y ef k2 k3)
          · by_cases e : j = i
            · rw [e, pk_us]
            · rw [pk_un e, pk_un (by omega)]
              exact hk j (by omega)
theorem fw_straighten {post : St1 → Prop} {len hgt pc st cnt bc : Int32} {a1 a2 a3 a4 a5 a6 a7 a8 a9 a10 a11 a12 a13 : Nat → Int32} {s m d : Nat} (hd : d ≤ 8) (hs : fz_sw (fz_cd a9 a10 a11 a12) s m) (hH : fz_H d a13) (hr : s + m + 24 ≤ 640)
    (H : ∀ m' c t l r g, m' ≤ m + 24 → fz_ST s d (fz_cd a9 a10 a11 a12) m a13 (fz_cd c t l r) m' g → (∀ k, k < d → g k = nI k) → post (len, hgt, pc, st, cnt, bc, nI (s + m'), nI d, a1, a2, a3, a4, a5, a6, a7, a8, c, t, l, r, g)) :
    wpX_straighten post (len, hgt, pc, st, cnt, bc, nI (s + m), nI d, a1, a2, a3, a4, a5, a6, a7, a8, a9, a10, a11, a12, a13) :=
  Exists.intro (d + 1) (fw_st2 hd hr H (d + 1) 0 m a9 a10 a11 a12 a13 (by omega) (by omega) (by omega) (fz_ST_refl hs hH) (fun k hk => absurd hk (by omega)))
/-! ### the free register -/
theorem fw_free31 {post : Int32 → Prop} {len hgt pc st cnt bc ce : Int32} {a1 a2 a3 a4 a5 a6 a7 a8 a9 a10 a11 a12 a13 : Nat → Int32} {d m : Nat} (hd : d < 8) (hH : fz_H d a13) (hm : m < 256) (hb : ∀ r, r < 8 → (m.testBit r = true ↔ ∃ h, h < d ∧ a13 h = nI r)) (H : ∀ r, r < 8 → (∀ h, h < d → a13 h ≠ nI r) → post (nI r)) :
    ∃ n, wX_freeRegister_31 post (nI m) len hgt pc st cnt bc ce (nI d) a1 a2 a3 a4 a5 a6 a7 a8 a9 a10 a11 a12 a13 n 0 := by
  refine pk_loop (σ := Unit) (fun n i _ => wX_freeRegister_31 post (nI m) len hgt pc st cnt bc ce (nI d) a1 a2 a3 a4 a5 a6 a7 a8 a9 a10 a11 a12 a13 n (nI i)) (fun i _ => ∀ r, r < i → ∃ h, h < d ∧ a13 h = nI r) 7 0 () (by omega) (fun r hr => absurd hr (by omega)) ?_ ?_
  · intro n _ hI
    refine pk_le 7 7 (fun _ => H 7 (by omega) (fun h hh e => ?_)) (fun z => absurd z (by omega))
    refine fz_hole d (fun h => (a13 h).toNatClampNeg) (fun r hr => ?_)
    by_cases er : r = 7
    · exact ⟨h, hh, by rw [er]; show (a13 h).toNatClampNeg = 7; rw [e, nI_clamp (by omega)]⟩
    · obtain ⟨x, hx, ex⟩ := hI r (by omega)
      exact ⟨x, hx, by show (a13 x).toNatClampNeg = r; rw [ex, nI_clamp (by omega)]⟩
  · intro n i _ hi hI hw
    refine pk_le 7 i (fun z => absurd z (by omega)) (fun _ => ?_)
    refine br_c (fun z => H i (by omega) (fun h hh e => ?_)) (fun z => nm_r (nI_1 i) (hw () (fun r hr => ?_)))
    · have b0 := (fz_bit m hm i (by omega)).mp z
      have b1 := (hb i (by omega)).mpr ⟨h, hh, e⟩
      rw [b0] at b1
      exact absurd b1 (by decide)
    · by_cases er : r = i
      · rw [er]
        apply (hb i (by omega)).mp
        cases hx : m.testBit i with
        | true => rfl
        | false => exact absurd ((fz_bit m hm i (by omega)).mpr hx) z
      · exact hI r (by omega)
theorem fw_free {post : Int32 → Prop} {len hgt pc st cnt bc ce : Int32} {a1 a2 a3 a4 a5 a6 a7 a8 a9 a10 a11 a12 a13 : Nat → Int32} {d : Nat} (hd : d < 8) (hH : fz_H d a13) (H : ∀ r, r < 8 → (∀ h, h < d → a13 h ≠ nI r) → post (nI r)) : wpX_freeRegister post (len, hgt, pc, st, cnt, bc, ce, nI d, a1, a2, a3, a4, a5, a6, a7, a8, a9, a10, a11, a12, a13) := by
  refine pk_loop (σ := Nat) (fun n i s => wX_freeRegister_4 post len hgt pc st cnt bc ce (nI d) a1 a2 a3 a4 a5 a6 a7 a8 a9 a10 a11 a12 a13 n (nI s) (nI i)) (fun i s => s < 256 ∧ ∀ r, r < 8 → (s.testBit r = true ↔ ∃ h, h < i ∧ a13 h = nI r)) d 0 0 (by omega) ⟨by omega, fun r hr => ?_⟩ ?_ ?_
  · rw [Nat.zero_testBit]
    exact ⟨fun z => absurd z (by decide), fun ⟨h, hh, _⟩ => absurd hh (by omega)⟩
  · intro n s hI
    exact pk_le d d (fun _ => fw_free31 hd hH hI.1 hI.2 H) (fun z => absurd z (by omega))
  · intro n i s hi hI hw
    obtain ⟨r0, hr0, e0⟩ := hH.1 i hi
    obtain ⟨o1, o2⟩ := fz_or s hI.1 r0 hr0
    refine pk_le d i (fun z => absurd z (by omega)) (fun _ => ⟨pk_in i 8 (by omega), ?_⟩)
    refine nm_r (e' := nI (s ||| 2 ^ r0)) (by rw [nI_clamp (by omega), e0]; exact o1) (nm_r (nI_1 i) (hw _ ⟨o2, fun r hr => ?_⟩))
    rw [Nat.testBit_or, Nat.testBit_two_pow, Bool.or_eq_true, hI.2 r hr, decide_eq_true_eq]
    constructor
    · rintro (⟨h, hh, e⟩ | e)
      · exact ⟨h, by omega, e⟩
      · exact ⟨i, by omega, by rw [e0, e]⟩
    · rintro ⟨h, hh, e⟩
      by_cases eh : h = i
      · right
        rw [eh, e0] at e
        exact (nI_eq (by omega) (by omega)).mp e
      · exact Or.inl ⟨h, by omega, e⟩
/-! ### faults -/
theorem fw_faults {post : Int32 → Prop} {len hgt pc st cnt bc ce dn : Int32} {a1 a2 a3 a4 a5 a6 a7 a8 a9 a10 a11 a12 a13 : Nat → Int32} {x v : Int32} {h : Nat} (hh : h ≤ 8) (hi : fz_ins x v) (H1 : fz_flt x.toNatClampNeg v.toNatClampNeg h = true → post 1) (H0 : fz_flt x.toNatClampNeg v.toNatClampNeg h = false → post 0) :
    wpX_faults post (len, hgt, pc, st, cnt, bc, ce, dn, a1, a2, a3, a4, a5, a6, a7, a8, a9, a10, a11, a12, a13) x v (nI h) := by
  obtain ⟨k, hk, rfl, hv⟩ := hi
  rw [nI_clamp (show k < 2 ^ 31 by omega)] at H0 H1
  have hj : ¬ k = 0 → ¬ k = 13 → ∃ j, v = nI j ∧ j ≤ 31 := by
    intro h1 h2
    rcases hv with h0 | h0 | ⟨j, e, h3, _⟩
    · omega
    · omega
    · exact ⟨j, e, h3⟩
  have hlt : ∀ j, fz_flt k v.toNatClampNeg h = decide (h ≤ j) → v = nI j → j ≤ 31 → (v < nI h → post 0) ∧ (¬ v < nI h → post 1) := by
    intro j e ev hj
    exact pk_lt j h (fun z => H0 (by rw [e]; exact decide_eq_false (by omega))) (fun z => H1 (by rw [e]; exact decide_eq_true z)) ev
  rcases fz_14 hk with rfl | rfl | rfl | rfl | rfl | rfl | rfl | rfl | rfl | rfl | rfl | rfl | rfl | rfl
  · exact br_t (by decide) (pk_lt h 8 (fun z => H0 (decide_eq_false (by omega))) (fun z => H1 (decide_eq_true z)))
  · obtain ⟨j, rfl, hj31⟩ := hj (by omega) (by omega)
    rw [nI_clamp (show j < 2 ^ 31 by omega)] at H0 H1
    exact br_f (by decide) (br_f (by decide) (br_t (by decide) (pk_le 8 h (fun z => H1 (by simp only [fz_flt, decide_eq_true z, Bool.true_or])) (fun z => pk_lt j h (fun y => H0 (by simp only [fz_flt, Bool.or_eq_false_iff, decide_eq_false_iff_not]; omega)) (fun y => H1 (by simp only [fz_flt, decide_eq_true y, Bool.or_true]))))))
  · exact br_f (by decide) (br_t (by decide) (pk_lt h 8 (fun z => H0 (decide_eq_false (by omega))) (fun z => H1 (decide_eq_true z))))
  · exact br_f (by decide) (br_f (by decide) (br_f (by decide) (br_t (by decide) (pk_le 1 h (fun z => H0 (decide_eq_false (by omega))) (fun z => H1 (decide_eq_true z))))))
  all_goals first
    | (obtain ⟨j, ev, hj31⟩ := hj (by decide) (by decide)
       have := hlt j (by rw [ev, nI_clamp (by omega)]; rfl) ev hj31
       exact br_f (by decide) (br_f (by decide) (br_f (by decide) (br_f (by decide) (br_f (by decide) (br_f (by decide) (br_f (by decide) (br_f (by decide) this))))))))
    | exact br_f (by decide) (br_f (by decide) (br_f (by decide) (br_f (by decide) (br_t (by decide) (pk_le 1 h (fun z => H0 (decide_eq_false (by omega))) (fun z => H1 (decide_eq_true z)))))))
    | exact br_f (by decide) (br_f (by decide) (br_f (by decide) (br_f (by decide) (br_f (by decide) (br_t (by decide) (pk_le 1 h (fun z => H0 (decide_eq_false (by omega))) (fun z => H1 (decide_eq_true z))))))))
    | exact br_f (by decide) (br_f (by decide) (br_f (by decide) (br_f (by decide) (br_f (by decide) (br_f (by decide) (br_t (by decide) (H0 rfl)))))))
    | exact br_f (by decide) (br_f (by decide) (br_f (by decide) (br_f (by decide) (br_f (by decide) (br_f (by decide) (br_f (by decide) (br_t (by decide) (H0 rfl))))))))
end
section
theorem fw_sub {h : Nat} {v : Int32} (ev : v = nI v.toNatClampNeg) (hj : v.toNatClampNeg ≤ h) : nI h - v = nI (h - v.toNatClampNeg) :=
  (congrArg (fun z => nI h - z) ev).trans (pk_sub hj)
theorem fw_arg {x v : Int32} (hi : fz_ins x v) : ∃ k, k < 14 ∧ x = nI k ∧ (k ≠ 0 → k ≠ 13 → v = nI v.toNatClampNeg ∧ v.toNatClampNeg ≤ 31 ∧ (k < 10 → v.toNatClampNeg ≤ 7) ∧ (8 ≤ k → k < 10 → 1 ≤ v.toNatClampNeg)) := by
  obtain ⟨k, hk, e, hv⟩ := hi
  refine ⟨k, hk, e, fun h0 h13 => ?_⟩
  rcases hv with h | h | ⟨j, rfl, h1, h2, h3⟩
  · exact absurd h h0
  · exact absurd h h13
  · rw [nI_clamp (by omega)]
    exact ⟨rfl, h1, h2, h3⟩
theorem fw_move {post : St1 → Prop} {len pc st cnt bc ce dn : Int32} {a1 a2 a3 a4 a5 a6 a7 a8 a9 a10 a11 a12 a13 : Nat → Int32} {k h : Nat} {v : Int32} (hk : k < 4) (hh : h ≤ 8) (hv : k ≠ 0 → v = nI v.toNatClampNeg ∧ v.toNatClampNeg ≤ 7) (nf : fz_flt k v.toNatClampNeg h = false)
    (H : ∀ h' F C, (∀ p c, fz_do k v h a4 a3 p c = (h', F, C, p + 1, 0, c + 1)) → post (len, nI h', pc, st, cnt, bc, ce, dn, a1, a2, C, F, a5, a6, a7, a8, a9, a10, a11, a12, a13)) : wpX_moveOne post (len, nI h, pc, st, cnt, bc, ce, dn, a1, a2, a3, a4, a5, a6, a7, a8, a9, a10, a11, a12, a13) (nI k) v := by
  have ch : (nI h).toNatClampNeg = h := nI_clamp (by omega)
  rcases (show k = 0 ∨ k = 1 ∨ k = 2 ∨ k = 3 by omega) with rfl | rfl | rfl | rfl
  · refine br_f (by decide) (br_t (by decide) ⟨pk_in h 10 (by omega), nm_r (e' := upd a4 h v) (by rw [ch]) (nm_r (nI_1 h) (H _ _ _ (fun p c => rfl)))⟩)
  · obtain ⟨ev, hj⟩ := hv (by decide)
    simp only [fz_flt, Bool.or_eq_false_iff, decide_eq_false_iff_not] at nf
    have e : nI h - 1 - v = nI (h - 1 - v.toNatClampNeg) := by rw [fw_m1 (by omega), fw_sub ev (by omega)]
    refine br_f (by decide) (br_f (by decide) (br_t (by decide) ⟨pk_in (h - 1 - v.toNatClampNeg) 10 (by omega) e, pk_in h 10 (by omega), nm_r (e' := upd a4 h (a4 (h - 1 - v.toNatClampNeg))) (by rw [ch, e, nI_clamp (by omega)]) (nm_r (nI_1 h) (H _ _ _ (fun p c => rfl)))⟩))
  · obtain ⟨ev, hj⟩ := hv (by decide)
    refine br_f (by decide) (br_f (by decide) (br_f (by decide) ⟨pk_in v.toNatClampNeg 8 (by omega) ev, pk_in h 10 (by omega), nm_r (e' := upd a4 h (a3 v.toNatClampNeg)) (by rw [ch]) (nm_r (nI_1 h) (H _ _ _ (fun p c => rfl)))⟩))
  · obtain ⟨ev, hj⟩ := hv (by decide)
    simp only [fz_flt, decide_eq_false_iff_not] at nf
    refine br_t (by decide) (nm_r (fw_m1 (by omega)) ⟨pk_in (h - 1) 10 (by omega), pk_in v.toNatClampNeg 8 (by omega) ev, nm_r (e' := upd a3 v.toNatClampNeg (a4 (h - 1))) (by rw [nI_clamp (by omega)]) (H _ _ _ (fun p c => rfl))⟩)
theorem fw_combine {post : St1 → Prop} {len pc st cnt bc ce dn : Int32} {a1 a2 a3 a4 a5 a6 a7 a8 a9 a10 a11 a12 a13 : Nat → Int32} {k h : Nat} {v : Int32} (hk : 4 ≤ k) (hk' : k < 10) (hh : h ≤ 8) (ev : v = nI v.toNatClampNeg) (hj : v.toNatClampNeg < h)
    (H : ∀ h' F, (∀ p c, fz_do k v h a4 a3 p c = (h', F, a3, p + 1, 0, c + 1)) → post (len, nI h', pc, st, cnt, bc, ce, dn, a1, a2, a3, F, a5, a6, a7, a8, a9, a10, a11, a12, a13)) : wpX_combineOne post (len, nI h, pc, st, cnt, bc, ce, dn, a1, a2, a3, a4, a5, a6, a7, a8, a9, a10, a11, a12, a13) (nI k) v := by
  have c1 : (nI (h - 1)).toNatClampNeg = h - 1 := nI_clamp (by omega)
  have c2 : (nI (h - 1 - v.toNatClampNeg)).toNatClampNeg = h - 1 - v.toNatClampNeg := nI_clamp (by omega)
  have i1 : vp_in (nI (h - 1)) 10 := pk_in (h - 1) 10 (by omega)
  have i2 : vp_in (nI (h - 1 - v.toNatClampNeg)) 10 := pk_in (h - 1 - v.toNatClampNeg) 10 (by omega)
  unfold wpX_combineOne
  dsimp only
  refine nm_r (fw_m1 (by omega)) (nm_r (fw_sub ev (by omega)) ⟨i1, nm_r (e' := a4 (h - 1)) (by rw [c1]) ⟨i2, nm_r (e' := a4 (h - 1 - v.toNatClampNeg)) (by rw [c2]) ?_⟩⟩)
  rcases (show k = 4 ∨ k = 5 ∨ k = 6 ∨ k = 7 ∨ k = 8 ∨ k = 9 by omega) with rfl | rfl | rfl | rfl | rfl | rfl
  · exact br_t (by decide) ⟨i1, nm_r (by rw [c1]) ⟨i2, nm_r (by rw [c2]) (H _ _ (fun p c => rfl))⟩⟩
  · exact br_f (by decide) (br_t (by decide) ⟨i1, nm_r (by rw [c1]) (H _ _ (fun p c => rfl))⟩)
  · exact br_f (by decide) (br_f (by decide) (br_t (by decide) ⟨i1, nm_r (by rw [c1]) (H _ _ (fun p c => rfl))⟩))
  · exact br_f (by decide) (br_f (by decide) (br_f (by decide) (br_t (by decide) ⟨i1, nm_r (by rw [c1]) (H _ _ (fun p c => rfl))⟩)))
  · refine br_f (by decide) (br_f (by decide) (br_f (by decide) (br_f (by decide) (br_t (by decide) ?_))))
    unfold wX_combineOne_138
    exact ⟨i2, nm_r (by rw [c2]) (nm_r (fw_m1 (by omega)) (H _ _ (fun p c => rfl)))⟩
  · refine br_f (by decide) (br_f (by decide) (br_f (by decide) (br_f (by decide) (br_f (by decide) ?_))))
    unfold wX_combineOne_138
    exact ⟨i2, nm_r (by rw [c2]) (nm_r (fw_m1 (by omega)) (H _ _ (fun p c => rfl)))⟩
theorem fw_pop {post : Int32 → St1 → Prop} {len st cnt bc ce dn : Int32} {a1 a2 a3 a4 a5 a6 a7 a8 a9 a10 a11 a12 a13 : Nat → Int32} {k h p : Nat} {v : Int32} (hk : k = 10 ∨ k = 11) (hh : h ≤ 8) (h1 : 1 ≤ h) (ev : v = nI v.toNatClampNeg)
    (H : ∀ p', (∀ c, fz_do k v h a4 a3 p c = (h - 1, a4, a3, p', 0, c + 1)) → post (nI p') (len, nI (h - 1), nI p, st, cnt, bc, ce, dn, a1, a2, a3, a4, a5, a6, a7, a8, a9, a10, a11, a12, a13)) : wpX_popAndBranch post (len, nI h, nI p, st, cnt, bc, ce, dn, a1, a2, a3, a4, a5, a6, a7, a8, a9, a10, a11, a12, a13) (nI k) v := by
  have c1 : (nI (h - 1)).toNatClampNeg = h - 1 := nI_clamp (by omega)
  have i1 : vp_in (nI (h - 1)) 10 := pk_in (h - 1) 10 (by omega)
  have HT : (∀ c, fz_do k v h a4 a3 p c = (h - 1, a4, a3, v.toNatClampNeg, 0, c + 1)) → wX_popAndBranch_47 post v 1 len (nI (h - 1)) (nI p) st cnt bc ce dn a1 a2 a3 a4 a5 a6 a7 a8 a9 a10 a11 a12 a13 := by
    intro e
    unfold wX_popAndBranch_47
    refine br_f (by decide) ?_
    have := H _ e
    rw [← ev] at this
    exact this
  have HF : (∀ c, fz_do k v h a4 a3 p c = (h - 1, a4, a3, p + 1, 0, c + 1)) → wX_popAndBranch_47 post v 0 len (nI (h - 1)) (nI p) st cnt bc ce dn a1 a2 a3 a4 a5 a6 a7 a8 a9 a10 a11 a12 a13 := by
    intro e
    unfold wX_popAndBranch_47
    refine br_t rfl ?_
    rw [nI_1]
    exact H _ e
  unfold wpX_popAndBranch
  dsimp only
  refine nm_r (fw_m1 (by omega)) ⟨i1, nm_r (e' := a4 (h - 1)) (by rw [c1]) ?_⟩
  rcases hk with rfl | rfl
  · refine br_t (by decide) (br_c (fun z => HT (fun c => ?_)) (fun z => HF (fun c => ?_)))
    · show (h - 1, a4, a3, (if a4 (h - 1) = 0 then v.toNatClampNeg else p + 1), (0 : Int32), c + 1) = _
      rw [if_pos z]
    · show (h - 1, a4, a3, (if a4 (h - 1) = 0 then v.toNatClampNeg else p + 1), (0 : Int32), c + 1) = _
      rw [if_neg z]
  · refine br_f (by decide) (br_c (fun z => HF (fun c => ?_)) (fun z => HT (fun c => ?_)))
    · show (h - 1, a4, a3, (if 0 ≤ a4 (h - 1) then p + 1 else v.toNatClampNeg), (0 : Int32), c + 1) = _
      rw [if_pos z]
    · show (h - 1, a4, a3, (if 0 ≤ a4 (h - 1) then p + 1 else v.toNatClampNeg), (0 : Int32), c + 1) = _
      rw [if_neg z]
theorem fw_tryOne {post : St1 → Prop} {cnt bc ce dn : Int32} {a1 a2 a3 a4 a5 a6 a7 a8 a9 a10 a11 a12 a13 : Nat → Int32} {n h p : Nat} (hok : fz_ok n a1 a2) (hh : h ≤ 8) (hp : p ≤ 32)
    (H : ∀ h' F C p' s c, fz_one n a1 a2 (h, a4, a3, p, 0, cnt) = (h', F, C, p', s, c) → post (nI n, nI h', nI p', s, c, bc, ce, dn, a1, a2, C, F, a5, a6, a7, a8, a9, a10, a11, a12, a13)) :
    wpX_tryOne post (nI n, nI h, nI p, 0, cnt, bc, ce, dn, a1, a2, a3, a4, a5, a6, a7, a8, a9, a10, a11, a12, a13) := by
  have hn := hok.1
  have cp : (nI p).toNatClampNeg = p := nI_clamp (by omega)
  refine pk_le n p (fun z => H _ _ _ _ _ _ (fz_one_end z)) (fun z => ?_)
  have ip : vp_in (nI p) 32 := pk_in p 32 (by omega)
  refine ⟨ip, ip, ?_⟩
  rw [cp]
  refine fw_faults hh (hok.2 p z) (fun f1 => ?_) (fun f0 => ?_)
  · exact br_f (by decide) (H _ _ _ _ _ _ (fz_one_flt z f1))
  · obtain ⟨k, hk, ek, hv⟩ := fw_arg (hok.2 p z)
    have E := fz_one_do (F := a4) (C := a3) (c := cnt) z f0
    have ck : (nI k).toNatClampNeg = k := nI_clamp (by omega)
    rw [ek, ck] at f0 E
    refine br_t rfl ⟨ip, nm_r (e' := nI k) ek ⟨ip, nm_e (nm_e ?_)⟩⟩
    by_cases k13 : k = 13
    · subst k13
      exact br_t (by decide) (H _ _ _ _ _ _ E)
    refine br_f (fun z => k13 ((nI_eq (by omega) (by omega)).mp z)) (nm_r (nI_1 p) ?_)
    by_cases k12 : k = 12
    · subst k12
      refine br_t (by decide) ?_
      have := H _ _ _ _ _ _ E
      rw [← (hv (by decide) (by decide)).1] at this
      exact this
    refine br_f (fun z => k12 ((nI_eq (by omega) (by omega)).mp z)) ?_
    by_cases k10 : k = 10
    · subst k10
      refine br_t (by decide) ?_
      unfold wX_tryOne_118
      simp only [fz_flt, decide_eq_false_iff_not] at f0
      exact fw_pop (Or.inl rfl) hh (by omega) (hv (by decide) (by decide)).1 (fun p' e => H _ _ _ _ _ _ (E.trans (e _)))
    refine br_f (fun z => k10 ((nI_eq (by omega) (by omega)).mp z)) ?_
    by_cases k11 : k = 11
    · subst k11
      refine br_t (by decide) ?_
      unfold wX_tryOne_118
      simp only [fz_flt, decide_eq_false_iff_not] at f0
      exact fw_pop (Or.inr rfl) hh (by omega) (hv (by decide) (by decide)).1 (fun p' e => H _ _ _ _ _ _ (E.trans (e _)))
    refine br_f (fun z => k11 ((nI_eq (by omega) (by omega)).mp z)) ?_
    refine pk_lt 3 k (fun z => ?_) (fun z => ?_)
    · have hj : (a2 p).toNatClampNeg < h := by
        rcases (show k = 4 ∨ k = 5 ∨ k = 6 ∨ k = 7 ∨ k = 8 ∨ k = 9 by omega) with rfl | rfl | rfl | rfl | rfl | rfl <;>
        · simp only [fz_flt, decide_eq_false_iff_not] at f0
          omega
      exact fw_combine (by omega) (by omega) hh (hv (by omega) (by omega)).1 hj (fun h' F e => H _ _ _ _ _ _ (E.trans (e _ _)))
    · exact fw_move (by omega) hh (fun h0 => ⟨(hv h0 k13).1, (hv h0 k13).2.2.1 (by omega)⟩) f0 (fun h' F C e => H _ _ _ _ _ _ (E.trans (e _ _)))
end
section
theorem fz_out_go {x y : Nat} {z : Int32} {w : fz_W} {c : Int32} (hx : x < 2 ^ 31) (hy : y < 2 ^ 31) : fz_out (nI 7, nI x, nI y, z) w c = (y, w.1, w.2, x, 0, c) := by
  unfold fz_out
  dsimp only
  rw [nI_clamp hx, nI_clamp hy, if_neg (by decide), if_neg (by decide), if_neg (by decide), if_neg (by decide)]
theorem fz_out_z {x y z : Nat} {w : fz_W} {c : Int32} (hx : x < 2 ^ 31) (hy : y < 2 ^ 31) (hz : z < 2 ^ 31) : fz_out (nI 8, nI x, nI y, nI z) w c = (y, w.1, w.2, if w.1 8 = 0 then z else x, 0, c) := by
  unfold fz_out
  dsimp only
  rw [nI_clamp hx, nI_clamp hy, nI_clamp hz, if_pos (by decide), if_neg (show ¬ nI 8 = 10 by decide), if_neg (show ¬ nI 8 = 11 by decide)]
theorem fz_out_n {x y z : Nat} {w : fz_W} {c : Int32} (hx : x < 2 ^ 31) (hy : y < 2 ^ 31) (hz : z < 2 ^ 31) : fz_out (nI 9, nI x, nI y, nI z) w c = (y, w.1, w.2, if 0 ≤ w.1 8 then x else z, 0, c) := by
  unfold fz_out
  dsimp only
  rw [nI_clamp hx, nI_clamp hy, nI_clamp hz, if_neg (show ¬ nI 9 = 8 by decide), if_pos (show nI 9 = 9 by decide), if_neg (show ¬ nI 9 = 10 by decide), if_neg (show ¬ nI 9 = 11 by decide)]
theorem fz_out_s {x y : Nat} {z : Int32} {w : fz_W} {c : Int32} (hx : x < 2 ^ 31) (hy : y < 2 ^ 31) : fz_out (nI 10, nI x, nI y, z) w c = (y, w.1, w.2, x, 1, c) := by
  unfold fz_out
  dsimp only
  rw [nI_clamp hx, nI_clamp hy, if_neg (show ¬ nI 10 = 8 by decide), if_neg (show ¬ nI 10 = 9 by decide), if_pos (show nI 10 = 10 by decide)]
theorem fz_out_t {x y : Nat} {z : Int32} {w : fz_W} {c : Int32} (hx : x < 2 ^ 31) (hy : y < 2 ^ 31) : fz_out (nI 11, nI x, nI y, z) w c = (y, w.1, w.2, x, 2, c) := by
  unfold fz_out
  dsimp only
  rw [nI_clamp hx, nI_clamp hy, if_neg (show ¬ nI 11 = 8 by decide), if_neg (show ¬ nI 11 = 9 by decide), if_neg (show ¬ nI 11 = 10 by decide), if_pos (show nI 11 = 11 by decide)]
theorem fw_work {post : St1 → Prop} {len hgt pc st cnt bc ce dn : Int32} {a1 a2 a3 a4 a5 a6 a7 a8 a9 a10 a11 a12 a13 : Nat → Int32} {e : Nat} (he : e < 640) (hw : fz_wf (fz_cd a9 a10 a11 a12 e)) (H : ∀ F C, fz_wk (fz_cd a9 a10 a11 a12 e) (a4, a3) = (F, C) → post (len, hgt, pc, st, cnt, bc, ce, dn, a1, a2, C, F, a5, a6, a7, a8, a9, a10, a11, a12, a13)) : wpX_work post (len, hgt, pc, st, cnt, bc, ce, dn, a1, a2, a3, a4, a5, a6, a7, a8, a9, a10, a11, a12, a13) (nI e) := by
  obtain ⟨k, x, y, ek, ex, ey, hk, hx, hy, h5, h6, hz⟩ := hw
  have ek' : a9 e = nI k := ek
  have ex' : a10 e = nI x := ex
  have ey' : a11 e = nI y := ey
  have ce' : (nI e).toNatClampNeg = e := nI_clamp (by omega)
  have cx : (nI x).toNatClampNeg = x := nI_clamp (by omega)
  have cy : (nI y).toNatClampNeg = y := nI_clamp (by omega)
  have ie : vp_in (nI e) 640 := pk_in e 640 he
  have ix : vp_in (nI x) 10 := pk_in x 10 hx
  have iy : vp_in (nI y) 10 := pk_in y 10 hy
  have Q : fz_cd a9 a10 a11 a12 e = (nI k, nI x, nI y, a12 e) := by
    show (a9 e, a10 e, a11 e, a12 e) = _
    rw [ek', ex', ey']
  rw [Q] at H
  unfold wpX_work
  dsimp only
  rw [ce', ek', ex', ey']
  refine ⟨ie, nm_e ⟨ie, nm_e ⟨ie, nm_e ⟨ie, nm_e ?_⟩⟩⟩⟩
  rw [cx, cy]
  rcases (show k = 0 ∨ k = 1 ∨ k = 2 ∨ k = 3 ∨ k = 4 ∨ k = 5 ∨ k = 6 by omega) with rfl | rfl | rfl | rfl | rfl | rfl | rfl
  · exact br_t (by decide) ⟨ix, nm_e (H _ _ (fz_wk0 _ (by omega)))⟩
  · exact br_f (by decide) (br_t (by decide) ⟨iy, ix, nm_e (H _ _ (fz_wk1 _ (by omega) (by omega)))⟩)
  · obtain ⟨z, hz1, hz2⟩ := hz (by omega) (by omega)
    have hz2' : a12 e = nI z := hz2
    rw [hz2', nI_clamp (show z < 2 ^ 31 by omega)]
    rw [hz2'] at H
    exact br_f (by decide) (br_f (by decide) (br_t (by decide) ⟨iy, pk_in z 10 hz1, ix, nm_e (H _ _ (fz_wk2 _ (by omega) (by omega) (by omega)))⟩))
  · obtain ⟨z, hz1, hz2⟩ := hz (by omega) (by omega)
    have hz2' : a12 e = nI z := hz2
    rw [hz2', nI_clamp (show z < 2 ^ 31 by omega)]
    rw [hz2'] at H
    exact br_f (by decide) (br_f (by decide) (br_f (by decide) (br_t (by decide) ⟨iy, pk_in z 10 hz1, ix, nm_e (H _ _ (fz_wk3 _ (by omega) (by omega) (by omega)))⟩)))
  · obtain ⟨z, hz1, hz2⟩ := hz (by omega) (by omega)
    have hz2' : a12 e = nI z := hz2
    rw [hz2', nI_clamp (show z < 2 ^ 31 by omega)]
    rw [hz2'] at H
    exact br_f (by decide) (br_f (by decide) (br_f (by decide) (br_f (by decide) (br_t (by decide) ⟨iy, pk_in z 10 hz1, ix, nm_e (H _ _ (fz_wk4 _ (by omega) (by omega) (by omega)))⟩))))
  · exact br_f (by decide) (br_f (by decide) (br_f (by decide) (br_f (by decide) (br_f (by decide) (br_t (by decide) ⟨pk_in y 8 (h5 rfl), ix, nm_e (H _ _ (fz_wk5 _ (by omega) (by omega)))⟩)))))
  · exact br_f (by decide) (br_f (by decide) (br_f (by decide) (br_f (by decide) (br_f (by decide) (br_f (by decide) ⟨iy, pk_in x 8 (h6 rfl), nm_e (H _ _ (fz_wk6 _ (by omega) (by omega)))⟩)))))
theorem fw_leave {post : St1 → Prop} {len hgt pc cnt bc ce dn : Int32} {a1 a2 a3 a4 a5 a6 a7 a8 a9 a10 a11 a12 a13 : Nat → Int32} {e : Nat} (he : e < 640) (ht : fz_tm (fz_cd a9 a10 a11 a12 e))
    (H : ∀ h F C p s c, fz_out (fz_cd a9 a10 a11 a12 e) (a4, a3) cnt = (h, F, C, p, s, c) → post (len, nI h, nI p, s, c, bc, ce, dn, a1, a2, C, F, a5, a6, a7, a8, a9, a10, a11, a12, a13)) : wX_execute_32 post (nI e) len hgt pc 0 cnt bc ce dn a1 a2 a3 a4 a5 a6 a7 a8 a9 a10 a11 a12 a13 := by
  obtain ⟨k, x, y, ek, ex, ey, hk, hk', hx, hy, hz⟩ := ht
  have ek' : a9 e = nI k := ek
  have ex' : a10 e = nI x := ex
  have ey' : a11 e = nI y := ey
  have ce' : (nI e).toNatClampNeg = e := nI_clamp (by omega)
  have ie : vp_in (nI e) 640 := pk_in e 640 he
  have Q : fz_cd a9 a10 a11 a12 e = (nI k, nI x, nI y, a12 e) := by
    show (a9 e, a10 e, a11 e, a12 e) = _
    rw [ek', ex', ey']
  rw [Q] at H
  unfold wX_execute_32
  rw [ce', ek', ex', ey']
  refine ⟨ie, nm_e ⟨ie, nm_e ⟨ie, nm_e ?_⟩⟩⟩
  unfold wX_execute_85 wX_execute_111 wX_execute_122
  rw [ce']
  rcases (show k = 7 ∨ k = 8 ∨ k = 9 ∨ k = 10 ∨ k = 11 by omega) with rfl | rfl | rfl | rfl | rfl
  · exact br_f (by decide) (br_f (by decide) (br_f (by decide) (br_f (by decide) (H _ _ _ _ _ _ (fz_out_go (by omega) (by omega))))))
  · obtain ⟨z, hz1, hz2⟩ := hz (by omega)
    have hz2' : a12 e = nI z := hz2
    rw [hz2']
    rw [hz2'] at H
    refine br_t (by decide) (br_c (fun y0 => ⟨ie, nm_e ?_⟩) (fun y0 => ?_))
    · exact br_f (by decide) (br_f (by decide) (br_f (by decide) (H _ _ _ _ _ _ ((fz_out_z (by omega) (by omega) (by omega)).trans (by dsimp only; rw [if_pos y0])))))
    · exact br_f (by decide) (br_f (by decide) (br_f (by decide) (H _ _ _ _ _ _ ((fz_out_z (by omega) (by omega) (by omega)).trans (by dsimp only; rw [if_neg y0])))))
  · obtain ⟨z, hz1, hz2⟩ := hz (by omega)
    have hz2' : a12 e = nI z := hz2
    rw [hz2']
    rw [hz2'] at H
    refine br_f (by decide) (br_t (by decide) (br_c (fun y0 => ?_) (fun y0 => ⟨ie, nm_e ?_⟩)))
    · exact br_f (by decide) (br_f (by decide) (H _ _ _ _ _ _ ((fz_out_n (by omega) (by omega) (by omega)).trans (by dsimp only; rw [if_pos y0]))))
    · exact br_f (by decide) (br_f (by decide) (H _ _ _ _ _ _ ((fz_out_n (by omega) (by omega) (by omega)).trans (by dsimp only; rw [if_neg y0]))))
  · exact br_f (by decide) (br_f (by decide) (br_t (by decide) (br_f (by decide) (H _ _ _ _ _ _ (fz_out_s (by omega) (by omega))))))
  · exact br_f (by decide) (br_f (by decide) (br_f (by decide) (br_t (by decide) (H _ _ _ _ _ _ (fz_out_t (by omega) (by omega))))))
theorem fw_exe2 {post : St1 → Prop} {len hgt pc cnt bc dn : Int32} {a1 a2 a5 a6 a7 a8 a9 a10 a11 a12 a13 : Nat → Int32} {s m e : Nat} {F0 C0 : Nat → Int32} (hE : e ≤ 640) (hm : s + m < e) (hs : fz_sw (fz_cd a9 a10 a11 a12) s m) (ht : fz_tm (fz_cd a9 a10 a11 a12 (s + m)))
    (H : ∀ h F C p st' c, fz_out (fz_cd a9 a10 a11 a12 (s + m)) (fz_ex (fz_cd a9 a10 a11 a12) s m (F0, C0)) cnt = (h, F, C, p, st', c) → post (len, nI h, nI p, st', c, bc, nI e, dn, a1, a2, C, F, a5, a6, a7, a8, a9, a10, a11, a12, a13)) :
    ∀ (fu i : Nat) (F C : Nat → Int32), i ≤ m → m - i < fu → fz_ex (fz_cd a9 a10 a11 a12) s i (F0, C0) = (F, C) → wX_execute_2 post fu (nI (s + i)) len hgt pc 0 cnt bc (nI e) dn a1 a2 C F a5 a6 a7 a8 a9 a10 a11 a12 a13 := by
  intro fu
  induction fu with
  | zero =>
    intro i F C h1 h2
    omega
  | succ fu ih =>
    intro i F C h1 h2 hex
    have ci : (nI (s + i)).toNatClampNeg = s + i := nI_clamp (by omega)
    refine pk_le e (s + i) (fun z => absurd z (by omega)) (fun _ => ⟨pk_in (s + i) 640 (by omega), ?_⟩)
    by_cases im : i = m
    · subst im
      obtain ⟨k, x, y, ek, ex, ey, hk, _⟩ := id ht
      refine pk_le 7 k (fun _ => ?_) (fun z => absurd z (by omega)) rfl (by rw [ci]; exact ek)
      refine fw_leave (by omega) ht (fun h F' C' p s' c E => H h F' C' p s' c ?_)
      rw [hex]
      exact E
    · have g1 : i + 1 ≤ m := by omega
      have g2 : m - (i + 1) < fu := by omega
      have g3 : s + i < 640 := by omega
      have hwf := hs i (by omega)
      obtain ⟨k, x, y, ek, ex, ey, hk, _⟩ := id hwf
      refine pk_le 7 k (fun z => absurd z (by omega)) (fun _ => ?_) rfl (by rw [ci]; exact ek)
      refine fw_work g3 hwf (fun F' C' E => nm_r (nI_1 (s + i)) (ih (i + 1) F' C' g1 g2 ?_))
      show fz_wk (fz_cd a9 a10 a11 a12 (s + i)) (fz_ex (fz_cd a9 a10 a11 a12) s i (F0, C0)) = _
      rw [hex]
      exact E
theorem fw_execute {post : St1 → Prop} {len hgt pc cnt bc dn : Int32} {a1 a2 a3 a4 a5 a6 a7 a8 a9 a10 a11 a12 a13 : Nat → Int32} {s m e : Nat} (hE : e ≤ 640) (hm : s + m < e) (hs : fz_sw (fz_cd a9 a10 a11 a12) s m) (ht : fz_tm (fz_cd a9 a10 a11 a12 (s + m)))
    (H : ∀ h F C p st' c, fz_out (fz_cd a9 a10 a11 a12 (s + m)) (fz_ex (fz_cd a9 a10 a11 a12) s m (a4, a3)) cnt = (h, F, C, p, st', c) → post (len, nI h, nI p, st', c, bc, nI e, dn, a1, a2, C, F, a5, a6, a7, a8, a9, a10, a11, a12, a13)) :
    wpX_execute post (len, hgt, pc, 0, cnt, bc, nI e, dn, a1, a2, a3, a4, a5, a6, a7, a8, a9, a10, a11, a12, a13) (nI s) :=
  Exists.intro (m + 1) (fw_exe2 hE hm hs ht H (m + 1) 0 a4 a3 (by omega) (by omega) rfl)
end
section
theorem fz_T_step2 {n : Nat} {o a : Nat → Int32} {p0 d0 : Nat} {K : Nat → fz_Q} {s m p q d : Nat} {g : Nat → Int32} (T : fz_T n o a p0 d0 K s m p q d g) {k : Nat} (hp : p < n) (ek : o p = nI k) (hk : k < 14) (nf : fz_flt k (a p).toNatClampNeg d = false)
    {K' : Nat → fz_Q} {m' d' : Nat} {g' : Nat → Int32} (hd : d' ≤ 8) (hH : fz_H d' g') (hs : fz_sw K' s m') (hm : m' ≤ m + 1)
    (hv : ∀ w c, fz_eq (fz_do k (a p) d (fz_vw g (fz_ex K s m w)) (fz_ex K s m w).2 p c) (d', fz_vw g' (fz_ex K' s m' w), (fz_ex K' s m' w).2, p + 1, 0, c + 1)) :
    fz_T n o a p0 d0 K' s m' (p + 1) (q + 1) d' g' := by
  have ck : (o p).toNatClampNeg = k := by rw [ek, nI_clamp (by omega)]
  refine fz_T_step T hp (by rw [ck]; exact nf) hd hH hs hm ?_
  rw [ck]
  exact hv
theorem fw_writeE {post : St1 → Prop} {len hgt pc st cnt bc ce dn : Int32} {a1 a2 a3 a4 a5 a6 a7 a8 a9 a10 a11 a12 a13 : Nat → Int32} {e k x y : Nat} {z P0 P1 P2 : Int32} (he : e < 640) (hk : k < 128) (hx : x < 128) (hy : y < 128) (e0 : P0 = nI k) (e1 : P1 = nI x) (e2 : P2 = nI y) (e3 : ce = nI e)
    (H : ∀ c t l r, fz_cd c t l r = fz_up (fz_cd a9 a10 a11 a12) e (nI k, nI x, nI y, z) → post (len, hgt, pc, st, cnt, bc, nI (e + 1), dn, a1, a2, a3, a4, a5, a6, a7, a8, c, t, l, r, a13)) :
    wpX_write post (len, hgt, pc, st, cnt, bc, ce, dn, a1, a2, a3, a4, a5, a6, a7, a8, a9, a10, a11, a12, a13) P0 P1 P2 z := by
  subst e0 e1 e2 e3
  exact fw_write he hk hx hy H
theorem fw_tm89 {post : St1 → Prop} {len hgt pc st cnt bc ce : Int32} {a1 a2 a3 a4 a5 a6 a7 a8 a9 a10 a11 a12 a13 : Nat → Int32} {d r : Nat} (hd : d < 8) (hr : r < 8) (H : post (len, hgt, pc, st, cnt, bc, ce, nI (d + 1), a1, a2, a3, a4, a5, a6, a7, a8, a9, a10, a11, a12, upd a13 d (nI r))) : wX_translateMove_89 post (nI r) len hgt pc st cnt bc ce (nI d) a1 a2 a3 a4 a5 a6 a7 a8 a9 a10 a11 a12 a13 := by
  unfold wX_translateMove_89
  refine ⟨pk_in d 8 hd, ?_⟩
  rw [nI_clamp (show d < 2 ^ 31 by omega), fz_b8 r (by omega)]
  exact nm_e (nm_r (nI_1 d) H)
theorem fw_trMove {post : St1 → Prop} {len hgt pc st cnt bc : Int32} {a1 a2 a3 a4 a5 a6 a7 a8 a9 a10 a11 a12 a13 : Nat → Int32} {n p0 d0 s m p q d k : Nat} (T : fz_T n a1 a2 p0 d0 (fz_cd a9 a10 a11 a12) s m p q d a13) (hp : p < n) (ek : a1 p = nI k) (hk : k < 4)
    (hv : k ≠ 0 → a2 p = nI (a2 p).toNatClampNeg ∧ (a2 p).toNatClampNeg ≤ 7) (nf : fz_flt k (a2 p).toNatClampNeg d = false) (hr : s + m < 640)
    (H : ∀ m' d' c t l r g, fz_ag s (fz_cd a9 a10 a11 a12) (fz_cd c t l r) → m' ≤ m + 1 → fz_T n a1 a2 p0 d0 (fz_cd c t l r) s m' (p + 1) (q + 1) d' g → post (len, hgt, pc, st, cnt, bc, nI (s + m'), nI d', a1, a2, a3, a4, a5, a6, a7, a8, c, t, l, r, g)) :
    wpX_translateMove post (len, hgt, pc, st, cnt, bc, nI (s + m), nI d, a1, a2, a3, a4, a5, a6, a7, a8, a9, a10, a11, a12, a13) (nI k) (a2 p) := by
  have hd := T.1
  have hH := T.2.1
  have hs := T.2.2.1
  have nf' := nf
  rcases (show k = 0 ∨ k = 1 ∨ k = 2 ∨ k = 3 by omega) with rfl | rfl | rfl | rfl
  · simp only [fz_flt, decide_eq_false_iff_not] at nf'
    refine br_f (by decide) (fw_free (by omega) hH (fun r hr8 hfr => ?_))
    refine br_t (by decide) (fw_write (k := 0) (x := r) (y := 0) (e := s + m) hr (by omega) (by omega) (by omega) (fun c t l r' E => ?_))
    refine fw_tm89 (by omega) hr8 (H (m + 1) (d + 1) c t l r' _ (by rw [E]; exact fz_ag_up (by omega)) (by omega) ?_)
    rw [E]
    refine fz_T_step2 T hp ek (by omega) nf (by omega) (fz_H_push hH hr8 hfr) (fz_sw_up hs ⟨0, r, 0, rfl, rfl, rfl, by omega, by omega, by omega, by omega, by omega, by omega⟩) (by omega) (fun w c => ?_)
    rw [fz_ex_up, fz_wk0 _ (by omega)]
    exact fz_v_push hH hr8 hfr
  · obtain ⟨ev, hj⟩ := hv (by decide)
    simp only [fz_flt, Bool.or_eq_false_iff, decide_eq_false_iff_not] at nf'
    have e : nI d - 1 - a2 p = nI (d - 1 - (a2 p).toNatClampNeg) := by rw [fw_m1 (by omega), fw_sub ev (by omega)]
    obtain ⟨hy, ey⟩ := fz_H_nat hH (show d - 1 - (a2 p).toNatClampNeg < d by omega)
    refine br_f (by decide) (fw_free (by omega) hH (fun r hr8 hfr => ?_))
    refine br_f (by decide) (br_t (by decide) ⟨pk_in (d - 1 - (a2 p).toNatClampNeg) 8 (by omega) e, ?_⟩)
    refine fw_writeE (k := 1) (x := r) (y := (a13 (d - 1 - (a2 p).toNatClampNeg)).toNatClampNeg) (e := s + m) hr (by omega) (by omega) (by omega) rfl rfl (by rw [e, nI_clamp (show d - 1 - (a2 p).toNatClampNeg < 2 ^ 31 by omega)]; exact ey) rfl (fun c t l r' E => ?_)
    refine fw_tm89 (by omega) hr8 (H (m + 1) (d + 1) c t l r' _ (by rw [E]; exact fz_ag_up (by omega)) (by omega) ?_)
    rw [E]
    refine fz_T_step2 T hp ek (by omega) nf (by omega) (fz_H_push hH hr8 hfr) (fz_sw_up hs (fz_wf1 (by omega) (by omega))) (by omega) (fun w c => ?_)
    rw [fz_ex_up, fz_wk1 _ (by omega) (by omega)]
    exact fz_v_push hH hr8 hfr
  · obtain ⟨ev, hj⟩ := hv (by decide)
    simp only [fz_flt, decide_eq_false_iff_not] at nf'
    refine br_f (by decide) (fw_free (by omega) hH (fun r hr8 hfr => ?_))
    refine br_f (by decide) (br_f (by decide) ?_)
    refine fw_writeE (k := 5) (x := r) (e := s + m) hr (by omega) (by omega) (by omega) rfl rfl ev rfl (fun c t l r' E => ?_)
    refine fw_tm89 (by omega) hr8 (H (m + 1) (d + 1) c t l r' _ (by rw [E]; exact fz_ag_up (by omega)) (by omega) ?_)
    rw [E]
    refine fz_T_step2 T hp ek (by omega) nf (by omega) (fz_H_push hH hr8 hfr) (fz_sw_up hs ⟨5, r, (a2 p).toNatClampNeg, rfl, rfl, rfl, by omega, by omega, by omega, by omega, by omega, by omega⟩) (by omega) (fun w c => ?_)
    rw [fz_ex_up, fz_wk5 _ (by omega) (by omega)]
    exact fz_v_push hH hr8 hfr
  · obtain ⟨ev, hj⟩ := hv (by decide)
    simp only [fz_flt, decide_eq_false_iff_not] at nf'
    obtain ⟨hy, ey⟩ := fz_H_nat hH (show d - 1 < d by omega)
    refine br_t (by decide) (nm_r (fw_m1 (by omega)) ⟨pk_in (d - 1) 8 (by omega), ?_⟩)
    refine fw_writeE (k := 6) (y := (a13 (d - 1)).toNatClampNeg) (e := s + m) hr (by omega) (by omega) (by omega) rfl ev (by rw [nI_clamp (show d - 1 < 2 ^ 31 by omega)]; exact ey) rfl (fun c t l r' E => ?_)
    refine H (m + 1) (d - 1) c t l r' a13 (by rw [E]; exact fz_ag_up (by omega)) (by omega) ?_
    rw [E]
    refine fz_T_step2 T hp ek (by omega) nf (by omega) (fz_H_le hH (by omega)) (fz_sw_up hs ⟨6, (a2 p).toNatClampNeg, _, rfl, rfl, rfl, by omega, by omega, by omega, by omega, by omega, by omega⟩) (by omega) (fun w c => ?_)
    rw [fz_ex_up, fz_wk6 _ (by omega) (by omega)]
    exact fz_eq_refl _
theorem fw_trCombine {post : St1 → Prop} {len hgt pc st cnt bc : Int32} {a1 a2 a3 a4 a5 a6 a7 a8 a9 a10 a11 a12 a13 : Nat → Int32} {n p0 d0 s m p q d k : Nat} (T : fz_T n a1 a2 p0 d0 (fz_cd a9 a10 a11 a12) s m p q d a13) (hp : p < n) (ek : a1 p = nI k) (hk : 4 ≤ k) (hk' : k < 10)
    (ev : a2 p = nI (a2 p).toNatClampNeg) (hj : (a2 p).toNatClampNeg < d) (hj1 : 8 ≤ k → 1 ≤ (a2 p).toNatClampNeg) (hr : s + m < 640)
    (H : ∀ m' d' c t l r g, fz_ag s (fz_cd a9 a10 a11 a12) (fz_cd c t l r) → m' ≤ m + 1 → fz_T n a1 a2 p0 d0 (fz_cd c t l r) s m' (p + 1) (q + 1) d' g → post (len, hgt, pc, st, cnt, bc, nI (s + m'), nI d', a1, a2, a3, a4, a5, a6, a7, a8, c, t, l, r, g)) :
    wpX_translateCombine post (len, hgt, pc, st, cnt, bc, nI (s + m), nI d, a1, a2, a3, a4, a5, a6, a7, a8, a9, a10, a11, a12, a13) (nI k) (a2 p) := by
  have hd := T.1
  have hH := T.2.1
  have hs := T.2.2.1
  have nf : fz_flt k (a2 p).toNatClampNeg d = false := by
    rcases (show k = 4 ∨ k = 5 ∨ k = 6 ∨ k = 7 ∨ k = 8 ∨ k = 9 by omega) with rfl | rfl | rfl | rfl | rfl | rfl <;>
    · simp only [fz_flt, decide_eq_false_iff_not]
      omega
  have e1 : nI d - 1 = nI (d - 1) := fw_m1 (by omega)
  have e2 : nI (d - 1) - a2 p = nI (d - 1 - (a2 p).toNatClampNeg) := fw_sub ev (by omega)
  have c1 : (nI (d - 1)).toNatClampNeg = d - 1 := nI_clamp (by omega)
  have c2 : (nI (d - 1 - (a2 p).toNatClampNeg)).toNatClampNeg = d - 1 - (a2 p).toNatClampNeg := nI_clamp (by omega)
  have i1 : vp_in (nI (d - 1)) 8 := pk_in (d - 1) 8 (by omega)
  have i2 : vp_in (nI (d - 1 - (a2 p).toNatClampNeg)) 8 := pk_in (d - 1 - (a2 p).toNatClampNeg) 8 (by omega)
  obtain ⟨ht, et⟩ := fz_H_nat hH (show d - 1 < d by omega)
  obtain ⟨hu, eu⟩ := fz_H_nat hH (show d - 1 - (a2 p).toNatClampNeg < d by omega)
  unfold wpX_translateCombine
  dsimp only
  rw [e1, e2, c1, c2]
  refine ⟨i1, nm_r et ⟨i2, nm_r eu ?_⟩⟩
  have wf3 : ∀ k' x y z, 2 ≤ k' → k' ≤ 4 → x < 8 → y < 8 → z < 8 → fz_wf (nI k', nI x, nI y, nI z) := fun k' x y z h1 h2 h3 h4 h5 =>
    ⟨k', x, y, rfl, rfl, rfl, by omega, by omega, by omega, by omega, by omega, fun _ _ => ⟨z, by omega, rfl⟩⟩
  rcases (show k = 4 ∨ k = 5 ∨ k = 6 ∨ k = 7 ∨ k = 8 ∨ k = 9 by omega) with rfl | rfl | rfl | rfl | rfl | rfl
  · refine br_t (by decide) ⟨i1, ?_⟩
    rw [fz_b8 _ (by omega), fz_b8 _ (by omega), ← et, ← eu]
    refine nm_e ⟨i2, nm_e (H m d a9 a10 a11 a12 _ (fz_ag_refl _ _) (by omega) ?_)⟩
    refine fz_T_step2 T hp ek (by omega) nf hd (fz_H_xch hH (by omega) (by omega)) hs (by omega) (fun w c => ?_)
    exact fz_v_xch
  · refine br_f (by decide) (br_t (by decide) (fw_write (k := 2) (e := s + m) hr (by omega) (by omega) (by omega) (fun c t l r E => ?_)))
    refine H (m + 1) d c t l r a13 (by rw [E]; exact fz_ag_up (by omega)) (by omega) ?_
    rw [E]
    refine fz_T_step2 T hp ek (by omega) nf hd hH (fz_sw_up hs (wf3 _ _ _ _ (by omega) (by omega) (by omega) (by omega) (by omega))) (by omega) (fun w c => ?_)
    rw [fz_ex_up, fz_wk2 _ (by omega) (by omega) (by omega)]
    exact fz_v_set hH (Nat.le_refl d) (by omega)
  · refine br_f (by decide) (br_f (by decide) (br_t (by decide) (fw_write (k := 3) (e := s + m) hr (by omega) (by omega) (by omega) (fun c t l r E => ?_))))
    refine H (m + 1) d c t l r a13 (by rw [E]; exact fz_ag_up (by omega)) (by omega) ?_
    rw [E]
    refine fz_T_step2 T hp ek (by omega) nf hd hH (fz_sw_up hs (wf3 _ _ _ _ (by omega) (by omega) (by omega) (by omega) (by omega))) (by omega) (fun w c => ?_)
    rw [fz_ex_up, fz_wk3 _ (by omega) (by omega) (by omega)]
    exact fz_v_set hH (Nat.le_refl d) (by omega)
  · refine br_f (by decide) (br_f (by decide) (br_f (by decide) (br_t (by decide) (fw_write (k := 4) (e := s + m) hr (by omega) (by omega) (by omega) (fun c t l r E => ?_)))))
    refine H (m + 1) d c t l r a13 (by rw [E]; exact fz_ag_up (by omega)) (by omega) ?_
    rw [E]
    refine fz_T_step2 T hp ek (by omega) nf hd hH (fz_sw_up hs (wf3 _ _ _ _ (by omega) (by omega) (by omega) (by omega) (by omega))) (by omega) (fun w c => ?_)
    rw [fz_ex_up, fz_wk4 _ (by omega) (by omega) (by omega)]
    exact fz_v_set hH (Nat.le_refl d) (by omega)
  · refine br_f (by decide) (br_f (by decide) (br_f (by decide) (br_f (by decide) (br_t (by decide) ?_))))
    unfold wX_translateCombine_129
    refine fw_write (k := 2) (e := s + m) hr (by omega) (by omega) (by omega) (fun c t l r E => nm_r e1 ?_)
    refine H (m + 1) (d - 1) c t l r a13 (by rw [E]; exact fz_ag_up (by omega)) (by omega) ?_
    rw [E]
    refine fz_T_step2 T hp ek (by omega) nf (by omega) (fz_H_le hH (by omega)) (fz_sw_up hs (wf3 _ _ _ _ (by omega) (by omega) (by omega) (by omega) (by omega))) (by omega) (fun w c => ?_)
    rw [fz_ex_up, fz_wk2 _ (by omega) (by omega) (by omega)]
    exact fz_v_set hH (by omega) (by omega)
  · refine br_f (by decide) (br_f (by decide) (br_f (by decide) (br_f (by decide) (br_f (by decide) ?_))))
    unfold wX_translateCombine_129
    refine fw_write (k := 3) (e := s + m) hr (by omega) (by omega) (by omega) (fun c t l r E => nm_r e1 ?_)
    refine H (m + 1) (d - 1) c t l r a13 (by rw [E]; exact fz_ag_up (by omega)) (by omega) ?_
    rw [E]
    refine fz_T_step2 T hp ek (by omega) nf (by omega) (fz_H_le hH (by omega)) (fz_sw_up hs (wf3 _ _ _ _ (by omega) (by omega) (by omega) (by omega) (by omega))) (by omega) (fun w c => ?_)
    rw [fz_ex_up, fz_wk3 _ (by omega) (by omega) (by omega)]
    exact fz_v_set hH (by omega) (by omega)
end
section
theorem fz_ST_out {s d : Nat} {K : Nat → fz_Q} {m : Nat} {g : Nat → Int32} {K' : Nat → fz_Q} {m' : Nat} {g' : Nat → Int32} (S : fz_ST s d K m g K' m' g') (hid : ∀ k, k < d → g' k = nI k) (hd : d ≤ 8) (w : fz_W) :
    (∀ h, h < d → (fz_ex K' s m' w).1 h = fz_vw g (fz_ex K s m w) h) ∧ (fz_ex K' s m' w).1 8 = (fz_ex K s m w).1 8 ∧ (fz_ex K' s m' w).2 = (fz_ex K s m w).2 := by
  obtain ⟨_, _, _, _, h5⟩ := S
  obtain ⟨x, y, z⟩ := h5 w
  refine ⟨fun h hh => ?_, y, z⟩
  rw [← x h hh]
  show _ = (fz_ex K' s m' w).1 (g' h).toNatClampNeg
  rw [hid h hh, nI_clamp (by omega)]
theorem fz_B_exit {n : Nat} {o a : Nat → Int32} {p0 d0 : Nat} {K : Nat → fz_Q} {s m p dn d : Nat} {g : Nat → Int32} (T : fz_T n o a p0 d0 K s m p dn d g)
    {K' : Nat → fz_Q} {m' : Nat} {g' : Nat → Int32} (S : fz_ST s d K m g K' m' g') (hid : ∀ k, k < d → g' k = nI k) {q : fz_Q} (tq : fz_tm q) (j i p' : Nat) (st' : Int32)
    (h1 : ∀ F C c, fz_run n o a j (d, F, C, p, 0, c) = (d, F, C, p', st', c + nI i)) (h2 : ∀ w c, fz_out q w c = (d, w.1, w.2, p', st', c)) :
    fz_B n o a (fz_up K' (s + m') q) (s + m' + 1) p0 d0 s (dn + j) (dn + i) := by
  refine fz_B_of T j i (by omega) (fz_sw_up0 S.2.2.1) (by rw [fz_up_s]; exact tq) (fun w c => ?_)
  rw [fz_up_s, fz_ex_up0, h1, h2]
  obtain ⟨x, y, z⟩ := fz_ST_out S hid T.1 w
  refine ⟨rfl, fun h hh => (x h hh).symm, ?_⟩
  show ((fz_ex K s m w).2, p', st', c + nI i) = ((fz_ex K' s m' w).2, p', st', c + nI i)
  rw [z]
theorem fz_B_cond {n : Nat} {o a : Nat → Int32} {p0 d0 : Nat} {K : Nat → fz_Q} {s m p dn d k : Nat} {g : Nat → Int32} (T : fz_T n o a p0 d0 K s m p dn d g) (hp : p < n) (hp32 : p < 32) (ek : o p = nI k) (kk : k = 10 ∨ k = 11) (hd1 : 1 ≤ d)
    (ev : a p = nI (a p).toNatClampNeg) (hj : (a p).toNatClampNeg ≤ 31) {K' : Nat → fz_Q} {m' : Nat} {g' : Nat → Int32}
    (S : fz_ST s (d - 1) (fz_up K (s + m) (nI 1, nI 8, nI (g (d - 1)).toNatClampNeg, 0)) (m + 1) g K' m' g') (hid : ∀ i, i < d - 1 → g' i = nI i) :
    fz_B n o a (fz_up K' (s + m') (nI (k - 2), nI (p + 1), nI (d - 1), a p)) (s + m' + 1) p0 d0 s (dn + 1) (dn + 1) := by
  have hd := T.1
  have hH := T.2.1
  have ck : (o p).toNatClampNeg = k := by rw [ek, nI_clamp (by omega)]
  have nf : fz_flt (o p).toNatClampNeg (a p).toNatClampNeg d = false := by
    rw [ck]
    rcases kk with rfl | rfl <;>
    · simp only [fz_flt, decide_eq_false_iff_not]
      omega
  refine fz_B_of T 1 1 (by omega) (fz_sw_up0 S.2.2.1) (by rw [fz_up_s]; exact ⟨k - 2, p + 1, d - 1, rfl, rfl, rfl, by omega, by omega, by omega, by omega, fun _ => ⟨(a p).toNatClampNeg, hj, ev⟩⟩) (fun w c => ?_)
  rw [fz_up_s, fz_ex_up0]
  obtain ⟨x, y, z⟩ := fz_ST_out S hid (by omega) w
  obtain ⟨hr, er⟩ := fz_H_nat hH (show d - 1 < d by omega)
  rw [fz_ex_up, fz_wk1 _ (by omega) (by omega)] at x y z
  generalize fz_ex K' s m' w = X at x y z ⊢
  generalize fz_ex K s m w = W at x y z ⊢
  have y' : X.1 8 = fz_vw g W (d - 1) := by
    rw [y]
    show upd W.1 8 (W.1 (g (d - 1)).toNatClampNeg) 8 = W.1 (g (d - 1)).toNatClampNeg
    exact pk_us
  have x' : ∀ h, h < d - 1 → fz_vw g W h = X.1 h := by
    intro h hh
    rw [x h hh]
    show W.1 (g h).toNatClampNeg = upd W.1 8 _ (g h).toNatClampNeg
    have := (fz_H_nat hH (show h < d by omega)).1
    rw [pk_un (by omega)]
  show fz_eq (fz_one n o a (d, fz_vw g W, W.2, p, 0, c)) _
  rw [fz_one_do hp nf, ck]
  have z' : X.2 = W.2 := z
  rw [ev] 
  rcases kk with rfl | rfl
  · rw [fz_out_z (by omega) (by omega) (by omega), y', z']
    refine ⟨rfl, x', ?_⟩
    show (W.2, (if fz_vw g W (d - 1) = 0 then (nI (a p).toNatClampNeg).toNatClampNeg else p + 1), (0 : Int32), c + 1) = _
    rw [nI_clamp (by omega)]
    rfl
  · rw [fz_out_n (by omega) (by omega) (by omega), y', z']
    refine ⟨rfl, x', ?_⟩
    show (W.2, (if 0 ≤ fz_vw g W (d - 1) then p + 1 else (nI (a p).toNatClampNeg).toNatClampNeg), (0 : Int32), c + 1) = _
    rw [nI_clamp (by omega)]
    rfl
theorem fw_trCond {post : Int32 → St1 → Prop} {len hgt pc st cnt bc : Int32} {a1 a2 a3 a4 a5 a6 a7 a8 a9 a10 a11 a12 a13 : Nat → Int32} {n p0 d0 s m p q d k : Nat} (T : fz_T n a1 a2 p0 d0 (fz_cd a9 a10 a11 a12) s m p q d a13) (hp : p < n) (hp32 : p < 32) (ek : a1 p = nI k) (kk : k = 10 ∨ k = 11) (hd1 : 1 ≤ d)
    (ev : a2 p = nI (a2 p).toNatClampNeg) (hj : (a2 p).toNatClampNeg ≤ 31) (hs6 : s ≤ 600) (hq : q < 12)
    (H0 : ∀ e' D c t l r g, fz_ag s (fz_cd a9 a10 a11 a12) (fz_cd c t l r) → s ≤ e' → e' ≤ 640 → fz_B n a1 a2 (fz_cd c t l r) e' p0 d0 s (q + 1) (q + 1) → post 0 (len, hgt, pc, st, cnt, bc, nI e', D, a1, a2, a3, a4, a5, a6, a7, a8, c, t, l, r, g)) :
    wX_translateOne_26 post (nI p) (nI k) (a2 p) len hgt pc st cnt bc (nI (s + m)) (nI d) a1 a2 a3 a4 a5 a6 a7 a8 a9 a10 a11 a12 a13 := by
  have hd := T.1
  have hm := T.2.2.2.1
  obtain ⟨hr, er⟩ := fz_H_nat T.2.1 (show d - 1 < d by omega)
  unfold wX_translateOne_26
  refine nm_r (fw_m1 (by omega)) ⟨pk_in (d - 1) 8 (by omega), ?_⟩
  refine fw_writeE (k := 1) (x := 8) (y := (a13 (d - 1)).toNatClampNeg) (e := s + m) (by omega) (by omega) (by omega) (by omega) rfl rfl (by rw [nI_clamp (show d - 1 < 2 ^ 31 by omega)]; exact er) rfl (fun c t l r E => ?_)
  refine fw_straighten (s := s) (m := m + 1) (d := d - 1) (by omega) (by rw [E]; exact fz_sw_up T.2.2.1 (fz_wf1 (by omega) (by omega))) (fz_H_le T.2.1 (by omega)) (by omega) (fun m2 c2 t2 l2 r2 g2 hm2 S hid => ?_)
  rw [E] at S
  have AG : fz_ag s (fz_cd a9 a10 a11 a12) (fz_cd c2 t2 l2 r2) := fz_ag_trans (e' := s + (m + 1)) (fz_ag_up (by omega)) S.2.1 (by omega)
  have F : ∀ k' : Nat, k - 2 = k' → ∀ c3 t3 l3 r3, fz_cd c3 t3 l3 r3 = fz_up (fz_cd c2 t2 l2 r2) (s + m2) (nI k', nI (p + 1), nI (d - 1), a2 p) → post 0 (len, hgt, pc, st, cnt, bc, nI (s + m2 + 1), nI (d - 1), a1, a2, a3, a4, a5, a6, a7, a8, c3, t3, l3, r3, g2) := by
    intro k' e3 c3 t3 l3 r3 E3
    refine H0 (s + m2 + 1) _ c3 t3 l3 r3 g2 ?_ (by omega) (by omega) ?_
    · rw [E3]
      exact fz_ag_trans (e' := s) AG (fz_ag_up (by omega)) (by omega)
    · rw [E3, ← e3]
      exact fz_B_cond T hp hp32 ek kk hd1 ev hj S hid
  rcases kk with rfl | rfl
  · refine br_t (by decide) ?_
    unfold wX_translateOne_71
    exact fw_writeE (k := 8) (x := p + 1) (y := d - 1) (e := s + m2) (by omega) (by omega) (by omega) (by omega) rfl (nI_1 p) rfl rfl (fun c3 t3 l3 r3 E3 => F 8 rfl c3 t3 l3 r3 E3)
  · refine br_f (by decide) ?_
    unfold wX_translateOne_71
    exact fw_writeE (k := 9) (x := p + 1) (y := d - 1) (e := s + m2) (by omega) (by omega) (by omega) (by omega) rfl (nI_1 p) rfl rfl (fun c3 t3 l3 r3 E3 => F 9 rfl c3 t3 l3 r3 E3)
theorem fw_trJump {post : Int32 → St1 → Prop} {len hgt pc st cnt bc : Int32} {a1 a2 a3 a4 a5 a6 a7 a8 a9 a10 a11 a12 a13 : Nat → Int32} {n p0 d0 s m p q d k : Nat} (T : fz_T n a1 a2 p0 d0 (fz_cd a9 a10 a11 a12) s m p q d a13) (hp : p < n) (hp32 : p < 32) (ek : a1 p = nI k) (kk : k = 12 ∨ k = 13)
    (ev : k = 12 → a2 p = nI (a2 p).toNatClampNeg ∧ (a2 p).toNatClampNeg ≤ 31) (hs6 : s ≤ 600) (hq : q < 12)
    (H0 : ∀ e' D c t l r g, fz_ag s (fz_cd a9 a10 a11 a12) (fz_cd c t l r) → s ≤ e' → e' ≤ 640 → fz_B n a1 a2 (fz_cd c t l r) e' p0 d0 s (q + 1) (q + 1) → post 0 (len, hgt, pc, st, cnt, bc, nI e', D, a1, a2, a3, a4, a5, a6, a7, a8, c, t, l, r, g)) :
    wX_translateOne_96 post (nI p) (nI k) (a2 p) len hgt pc st cnt bc (nI (s + m)) (nI d) a1 a2 a3 a4 a5 a6 a7 a8 a9 a10 a11 a12 a13 := by
  have hd := T.1
  have hm := T.2.2.2.1
  have ck : (a1 p).toNatClampNeg = k := by rw [ek, nI_clamp (by omega)]
  have nf : fz_flt (a1 p).toNatClampNeg (a2 p).toNatClampNeg d = false := by
    rw [ck]
    rcases kk with rfl | rfl <;> rfl
  unfold wX_translateOne_96
  refine fw_straighten (s := s) (m := m) (d := d) hd T.2.2.1 T.2.1 (by omega) (fun m2 c2 t2 l2 r2 g2 hm2 S hid => ?_)
  have AG : fz_ag s (fz_cd a9 a10 a11 a12) (fz_cd c2 t2 l2 r2) := fun i hi => S.2.1 i (by omega)
  rcases kk with rfl | rfl
  · obtain ⟨ev1, hj⟩ := ev rfl
    refine br_t (by decide) ?_
    unfold wX_translateOne_114
    refine br_t (by decide) ?_
    unfold wX_translateOne_125
    refine fw_writeE (k := 7) (x := (a2 p).toNatClampNeg) (y := d) (e := s + m2) (by omega) (by omega) (by omega) (by omega) rfl ev1 rfl rfl (fun c3 t3 l3 r3 E3 => ?_)
    refine H0 (s + m2 + 1) _ c3 t3 l3 r3 g2 ?_ (by omega) (by omega) ?_
    · rw [E3]
      exact fz_ag_trans (e' := s) AG (fz_ag_up (by omega)) (by omega)
    · rw [E3]
      refine fz_B_exit T S hid ⟨7, _, d, rfl, rfl, rfl, by omega, by omega, by omega, by omega, by omega⟩ 1 1 (a2 p).toNatClampNeg 0 (fun F C c => ?_) (fun w c => fz_out_go (by omega) (by omega))
      show fz_one n a1 a2 (d, F, C, p, 0, c) = _
      rw [fz_one_do hp nf, ck]
      rfl
  · refine br_f (by decide) ?_
    unfold wX_translateOne_114
    refine br_f (by decide) ?_
    unfold wX_translateOne_125
    refine fw_writeE (k := 10) (x := p) (y := d) (e := s + m2) (by omega) (by omega) (by omega) (by omega) rfl rfl rfl rfl (fun c3 t3 l3 r3 E3 => ?_)
    refine H0 (s + m2 + 1) _ c3 t3 l3 r3 g2 ?_ (by omega) (by omega) ?_
    · rw [E3]
      exact fz_ag_trans (e' := s) AG (fz_ag_up (by omega)) (by omega)
    · rw [E3]
      refine fz_B_exit T S hid ⟨10, p, d, rfl, rfl, rfl, by omega, by omega, by omega, by omega, by omega⟩ 1 1 p 1 (fun F C c => ?_) (fun w c => fz_out_s (by omega) (by omega))
      show fz_one n a1 a2 (d, F, C, p, 0, c) = _
      rw [fz_one_do hp nf, ck]
      rfl
theorem fw_trOne {post : Int32 → St1 → Prop} {len hgt pc st cnt bc : Int32} {a1 a2 a3 a4 a5 a6 a7 a8 a9 a10 a11 a12 a13 : Nat → Int32} {n p0 d0 s m p q d : Nat} (hok : fz_ok n a1 a2) (T : fz_T n a1 a2 p0 d0 (fz_cd a9 a10 a11 a12) s m p q d a13) (hp : p < n) (nf : fz_flt (a1 p).toNatClampNeg (a2 p).toNatClampNeg d = false) (hs6 : s ≤ 600) (hq : q < 12)
    (H1 : ∀ m' d' c t l r g, fz_ag s (fz_cd a9 a10 a11 a12) (fz_cd c t l r) → m' ≤ m + 1 → fz_T n a1 a2 p0 d0 (fz_cd c t l r) s m' (p + 1) (q + 1) d' g → post 1 (len, hgt, pc, st, cnt, bc, nI (s + m'), nI d', a1, a2, a3, a4, a5, a6, a7, a8, c, t, l, r, g))
    (H0 : ∀ e' D c t l r g, fz_ag s (fz_cd a9 a10 a11 a12) (fz_cd c t l r) → s ≤ e' → e' ≤ 640 → fz_B n a1 a2 (fz_cd c t l r) e' p0 d0 s (q + 1) (q + 1) → post 0 (len, hgt, pc, st, cnt, bc, nI e', D, a1, a2, a3, a4, a5, a6, a7, a8, c, t, l, r, g)) :
    wpX_translateOne post (len, hgt, pc, st, cnt, bc, nI (s + m), nI d, a1, a2, a3, a4, a5, a6, a7, a8, a9, a10, a11, a12, a13) (nI p) := by
  have hn := hok.1
  have hm := T.2.2.2.1
  have cp : (nI p).toNatClampNeg = p := nI_clamp (by omega)
  have ip : vp_in (nI p) 32 := pk_in p 32 (by omega)
  obtain ⟨k, hk, ek, hv⟩ := fw_arg (hok.2 p hp)
  rw [ek, nI_clamp (show k < 2 ^ 31 by omega)] at nf
  unfold wpX_translateOne
  dsimp only
  rw [cp]
  refine ⟨ip, nm_r ek ⟨ip, nm_e ?_⟩⟩
  by_cases k10 : k = 10
  · subst k10
    simp only [fz_flt, decide_eq_false_iff_not] at nf
    exact br_t (by decide) (fw_trCond T hp (by omega) ek (Or.inl rfl) (by omega) (hv (by decide) (by decide)).1 (hv (by decide) (by decide)).2.1 hs6 hq H0)
  refine br_f (fun z => k10 ((nI_eq (by omega) (by omega)).mp z)) ?_
  by_cases k11 : k = 11
  · subst k11
    simp only [fz_flt, decide_eq_false_iff_not] at nf
    exact br_t (by decide) (fw_trCond T hp (by omega) ek (Or.inr rfl) (by omega) (hv (by decide) (by decide)).1 (hv (by decide) (by decide)).2.1 hs6 hq H0)
  refine br_f (fun z => k11 ((nI_eq (by omega) (by omega)).mp z)) ?_
  by_cases k12 : k = 12
  · subst k12
    exact br_t (by decide) (fw_trJump T hp (by omega) ek (Or.inl rfl) (fun _ => ⟨(hv (by decide) (by decide)).1, (hv (by decide) (by decide)).2.1⟩) hs6 hq H0)
  refine br_f (fun z => k12 ((nI_eq (by omega) (by omega)).mp z)) ?_
  by_cases k13 : k = 13
  · subst k13
    exact br_t (by decide) (fw_trJump T hp (by omega) ek (Or.inr rfl) (fun z => absurd z (by decide)) hs6 hq H0)
  refine br_f (fun z => k13 ((nI_eq (by omega) (by omega)).mp z)) ?_
  refine pk_lt 3 k (fun z => ?_) (fun z => ?_)
  · have hj : (a2 p).toNatClampNeg < d := by
      rcases (show k = 4 ∨ k = 5 ∨ k = 6 ∨ k = 7 ∨ k = 8 ∨ k = 9 by omega) with rfl | rfl | rfl | rfl | rfl | rfl <;>
      · simp only [fz_flt, decide_eq_false_iff_not] at nf
        omega
    exact fw_trCombine T hp ek (by omega) (by omega) (hv (by omega) (by omega)).1 hj (fun z => (hv (by omega) (by omega)).2.2.2 z (by omega)) (by omega) H1
  · exact fw_trMove T hp ek (by omega) (fun h0 => ⟨(hv h0 k13).1, (hv h0 k13).2.2.1 (by omega)⟩) nf (by omega) H1
end
section
theorem fw_tr154 {post : St1 → Prop} {len hgt pc st cnt bc ce dn : Int32} {a1 a2 a3 a4 a5 a6 a7 a8 a9 a10 a11 a12 a13 : Nat → Int32} {b q x : Nat} (hb : b < 48) (hq : q ≤ 12) (hx : x ≤ 1) (H : post (len, hgt, pc, st, cnt, bc, ce, dn, a1, a2, a3, a4, a5, a6, upd a7 b (nI (q + x)), upd a8 b (nI q), a9, a10, a11, a12, a13)) : wX_translate_154 post (nI b) (nI q) (nI x) len hgt pc st cnt bc ce dn a1 a2 a3 a4 a5 a6 a7 a8 a9 a10 a11 a12 a13 := by
  have cb : (nI b).toNatClampNeg = b := nI_clamp (by omega)
  have ib : vp_in (nI b) 48 := pk_in b 48 hb
  unfold wX_translate_154
  rw [cb, nI_1, fz_b8 q (by omega), fz_b8 (q + 1) (by omega)]
  rcases (show x = 0 ∨ x = 1 by omega) with rfl | rfl
  · exact ⟨ib, nm_e (br_t (by decide) ⟨ib, nm_e H⟩)⟩
  · exact ⟨ib, nm_e (br_f (by decide) ⟨ib, nm_e H⟩)⟩
theorem fw_tr89 {post : St1 → Prop} {len hgt pc st cnt bc : Int32} {a1 a2 a3 a4 a5 a6 a7 a8 a9 a10 a11 a12 a13 : Nat → Int32} {J : Int32 → Int32 → Int32 → Int32 → Int32 → Int32 → Int32 → Int32 → Int32 → Int32 → Int32 → Int32 → (Nat → Int32) → (Nat → Int32) → (Nat → Int32) → (Nat → Int32) → (Nat → Int32) → (Nat → Int32) → (Nat → Int32) → (Nat → Int32) → (Nat → Int32) → (Nat → Int32) → (Nat → Int32) → (Nat → Int32) → (Nat → Int32) → Prop} {n p0 d0 s m p q d b : Nat} (T : fz_T n a1 a2 p0 d0 (fz_cd a9 a10 a11 a12) s m p q d a13) (hp32 : p ≤ 32) (hs6 : s ≤ 600) (hq : q < 12)
    (hone : ∀ F C c, fz_one n a1 a2 (d, F, C, p, 0, c) = (d, F, C, p, 2, c))
    (H0 : ∀ e' D c t l r g, fz_ag s (fz_cd a9 a10 a11 a12) (fz_cd c t l r) → s ≤ e' → e' ≤ 640 → fz_B n a1 a2 (fz_cd c t l r) e' p0 d0 s (q + 1) q → J (nI p) (nI q) 0 1 len hgt pc st cnt bc (nI e') D a1 a2 a3 a4 a5 a6 a7 a8 c t l r g) :
    wX_translate_89 post J (nI b) (nI p) (nI q) len hgt pc st cnt bc (nI (s + m)) (nI d) a1 a2 a3 a4 a5 a6 a7 a8 a9 a10 a11 a12 a13 := by
  have hd := T.1
  have hm := T.2.2.2.1
  unfold wX_translate_89
  refine fw_straighten (s := s) (m := m) (d := d) hd T.2.2.1 T.2.1 (by omega) (fun m2 c2 t2 l2 r2 g2 hm2 S hid => ?_)
  have AG : fz_ag s (fz_cd a9 a10 a11 a12) (fz_cd c2 t2 l2 r2) := fun i hi => S.2.1 i (by omega)
  refine fw_writeE (k := 11) (x := p) (y := d) (e := s + m2) (by omega) (by omega) (by omega) (by omega) rfl rfl rfl rfl (fun c3 t3 l3 r3 E3 => ?_)
  refine H0 (s + m2 + 1) _ c3 t3 l3 r3 g2 ?_ (by omega) (by omega) ?_
  · rw [E3]
    exact fz_ag_trans (e' := s) AG (fz_ag_up (by omega)) (by omega)
  · rw [E3]
    refine fz_B_exit T S hid ⟨11, p, d, rfl, rfl, rfl, by omega, by omega, by omega, by omega, by omega⟩ 1 0 p 2 (fun F C c => ?_) (fun w c => fz_out_t (by omega) (by omega))
    show fz_one n a1 a2 (d, F, C, p, 0, c) = _
    rw [hone, nI_0, Int32.add_zero]
theorem fw_tr43e {post : St1 → Prop} {len hgt pc st cnt bc ce dn : Int32} {a1 a2 a3 a4 a5 a6 a7 a8 a9 a10 a11 a12 a13 : Nat → Int32} {x4 : Int32} {b q x fu : Nat} (hb : b < 48) (hq : q ≤ 12) (hx : x ≤ 1) (H : post (len, hgt, pc, st, cnt, bc, ce, dn, a1, a2, a3, a4, a5, a6, upd a7 b (nI (q + x)), upd a8 b (nI q), a9, a10, a11, a12, a13)) : wX_translate_43 post (nI b) (fu + 1) x4 (nI q) 0 (nI x) len hgt pc st cnt bc ce dn a1 a2 a3 a4 a5 a6 a7 a8 a9 a10 a11 a12 a13 := by
  refine br_t rfl ?_
  unfold wX_translate_132
  exact br_t rfl (fw_tr154 hb hq hx H)
theorem fw_tr43 {post : St1 → Prop} {hgt pc st cnt bc : Int32} {a1 a2 a3 a4 a5 a6 a7 a8 a9 a10 a11 a12 : Nat → Int32} {n p0 d0 s b : Nat} (hok : fz_ok n a1 a2) (hs6 : s ≤ 600) (hb : b < 48)
    (H : ∀ e' t' q' D c t l r g, fz_ag s (fz_cd a9 a10 a11 a12) (fz_cd c t l r) → s ≤ e' → e' ≤ 640 → 1 ≤ t' → t' ≤ 13 → q' ≤ 12 → fz_B n a1 a2 (fz_cd c t l r) e' p0 d0 s t' q' → post (nI n, hgt, pc, st, cnt, bc, nI e', D, a1, a2, a3, a4, a5, a6, upd a7 b (nI t'), upd a8 b (nI q'), c, t, l, r, g)) :
    ∀ (fu p q m d : Nat) (c t l r g : Nat → Int32), p ≤ 32 → q ≤ 12 → 13 - q < fu → fz_ag s (fz_cd a9 a10 a11 a12) (fz_cd c t l r) → fz_T n a1 a2 p0 d0 (fz_cd c t l r) s m p q d g →
      wX_translate_43 post (nI b) fu (nI p) (nI q) 1 0 (nI n) hgt pc st cnt bc (nI (s + m)) (nI d) a1 a2 a3 a4 a5 a6 a7 a8 c t l r g := by
  have hn := hok.1
  intro fu
  induction fu with
  | zero =>
    intro p q m d c t l r g h1 h2 h3
    omega
  | succ fu ih =>
    intro p q m d c t l r g h1 h2 h3 AG T
    have hd := T.1
    have hm := T.2.2.2.1
    refine br_f (by decide) (pk_le 12 q (fun z => ?_) (fun z => pk_le n p (fun y => ?_) (fun y => ?_)))
    · unfold wX_translate_132
      refine br_f (by decide) ?_
      refine fw_straighten (s := s) (m := m) (d := d) hd T.2.2.1 T.2.1 (by omega) (fun m2 c2 t2 l2 r2 g2 hm2 S hid => ?_)
      refine fw_writeE (k := 7) (x := p) (y := d) (e := s + m2) (by omega) (by omega) (by omega) (by omega) rfl rfl rfl rfl (fun c3 t3 l3 r3 E3 => ?_)
      refine fw_tr154 (x := 0) hb h2 (by omega) (H (s + m2 + 1) (q + 0) q _ c3 t3 l3 r3 g2 ?_ (by omega) (by omega) (by omega) (by omega) (by omega) ?_)
      · rw [E3]
        exact fz_ag_trans (e' := s) (fz_ag_trans (e' := s + m) AG S.2.1 (by omega)) (fz_ag_up (by omega)) (by omega)
      · rw [E3]
        refine fz_B_exit T S hid ⟨7, p, d, rfl, rfl, rfl, by omega, by omega, by omega, by omega, by omega⟩ 0 0 p 0 (fun F C c => ?_) (fun w c => fz_out_go (by omega) (by omega))
        show (d, F, C, p, (0 : Int32), c) = _
        rw [nI_0, Int32.add_zero]
    · obtain ⟨fu', rfl⟩ : ∃ f', fu = f' + 1 := ⟨fu - 1, by omega⟩
      refine fw_tr89 T h1 hs6 z (fun F C c => fz_one_end y) (fun e' D c3 t3 l3 r3 g3 AG3 e1 e2 B => ?_)
      exact fw_tr43e (x := 1) hb h2 (by omega) (H e' (q + 1) q D c3 t3 l3 r3 g3 (fz_ag_trans (e' := s) AG AG3 (by omega)) e1 e2 (by omega) (by omega) (by omega) B)
    · obtain ⟨fu', rfl⟩ : ∃ f', fu = f' + 1 := ⟨fu - 1, by omega⟩
      have cp : (nI p).toNatClampNeg = p := nI_clamp (by omega)
      have ip : vp_in (nI p) 32 := pk_in p 32 (by omega)
      refine ⟨ip, ip, ?_⟩
      rw [cp]
      refine fw_faults hd (hok.2 p y) (fun f1 => br_f (by decide) ?_) (fun f0 => br_t rfl (nm_r (nI_1 q) ?_))
      · refine fw_tr89 T h1 hs6 z (fun F C c => fz_one_flt y f1) (fun e' D c3 t3 l3 r3 g3 AG3 e1 e2 B => ?_)
        exact fw_tr43e (x := 1) hb h2 (by omega) (H e' (q + 1) q D c3 t3 l3 r3 g3 (fz_ag_trans (e' := s) AG AG3 (by omega)) e1 e2 (by omega) (by omega) (by omega) B)
      · refine fw_trOne hok T y f0 hs6 z (fun m' d' c3 t3 l3 r3 g3 AG3 hm' T' => nm_r (nI_1 p) ?_) (fun e' D c3 t3 l3 r3 g3 AG3 e1 e2 B => nm_r (nI_1 p) ?_)
        · exact ih (p + 1) (q + 1) m' d' c3 t3 l3 r3 g3 (by omega) (by omega) (by omega) (fz_ag_trans (e' := s) AG AG3 (by omega)) T'
        · exact fw_tr43e (x := 0) hb (by omega) (by omega) (H e' (q + 1) (q + 1) D c3 t3 l3 r3 g3 (fz_ag_trans (e' := s) AG AG3 (by omega)) e1 e2 (by omega) (by omega) (by omega) B)
theorem fw_translate {post : St1 → Prop} {hgt pc st cnt bc dn : Int32} {a1 a2 a3 a4 a5 a6 a7 a8 a9 a10 a11 a12 a13 : Nat → Int32} {n p0 d0 s b : Nat} (hok : fz_ok n a1 a2) (hp : p0 ≤ 32) (hd : d0 ≤ 8) (hs6 : s ≤ 600) (hb : b < 48)
    (H : ∀ e' t' q' D c t l r g, fz_ag s (fz_cd a9 a10 a11 a12) (fz_cd c t l r) → s ≤ e' → e' ≤ 640 → 1 ≤ t' → t' ≤ 13 → q' ≤ 12 → fz_B n a1 a2 (fz_cd c t l r) e' p0 d0 s t' q' → post (nI n, hgt, pc, st, cnt, bc, nI e', D, a1, a2, a3, a4, a5, a6, upd a7 b (nI t'), upd a8 b (nI q'), c, t, l, r, g)) :
    wpX_translate post (nI n, hgt, pc, st, cnt, bc, nI s, dn, a1, a2, a3, a4, a5, a6, a7, a8, a9, a10, a11, a12, a13) (nI b) (nI p0) (nI d0) := by
  refine pk_loop (fun fu i g => wX_translate_8 post (nI b) (nI p0) (nI n) hgt pc st cnt bc (nI s) (nI d0) fu (nI i) a1 a2 a3 a4 a5 a6 a7 a8 a9 a10 a11 a12 g) (fun i g => ∀ j, j < i → g j = nI j) 8 0 a13 (by omega) (fun j hj => absurd hj (by omega)) ?_ ?_
  · intro fu g hg
    refine pk_le 8 8 (fun _ => ?_) (fun z => absurd z (by omega))
    exact ⟨14, fw_tr43 hok hs6 hb H 14 p0 0 0 d0 a9 a10 a11 a12 g hp (by omega) (by omega) (fz_ag_refl _ _) (fz_T_0 hd hg)⟩
  · intro fu i g hi hg hw
    refine pk_le 8 i (fun z => absurd z (by omega)) (fun _ => ⟨pk_in i 8 hi, nm_r (e' := upd g i (nI i)) (by rw [nI_clamp (by omega), fz_b8 i (by omega)]) (nm_r (nI_1 i) (hw _ (fun j hj => ?_)))⟩)
    by_cases e : j = i
    · rw [e, pk_us]
    · rw [pk_un e]
      exact hg j (by omega)
/-- the table of blocks -/
def fz_TB (n : Nat) (o a : Nat → Int32) (K : Nat → fz_Q) (e B : Nat) (b5 b6 b7 b8 : Nat → Int32) : Prop :=
  ∀ i, i < 297 → b5 i = -1 ∨ ∃ b s t q : Nat, b < B ∧ b5 i = nI b ∧ b6 b = nI s ∧ b7 b = nI t ∧ b8 b = nI q ∧ s ≤ 600 ∧ 1 ≤ t ∧ t ≤ 13 ∧ q ≤ 12 ∧ fz_B n o a K e (i / 9) (i % 9) s t q
theorem fw_ba46 {post : Int32 → St1 → Prop} {hgt pc st cnt dn : Int32} {a1 a2 a3 a4 a5 a6 a7 a8 a9 a10 a11 a12 a13 : Nat → Int32} {n p d B e : Nat} (hok : fz_ok n a1 a2) (hp : p ≤ 32) (hd : d ≤ 8) (hB : B < 48) (he : e ≤ 600) (hT : fz_TB n a1 a2 (fz_cd a9 a10 a11 a12) e B a5 a6 a7 a8)
    (H : ∀ B' e' b s t' q' : Nat, ∀ D b5 b6 b7 b8 c t l r g, B' ≤ 48 → e' ≤ 640 → fz_TB n a1 a2 (fz_cd c t l r) e' B' b5 b6 b7 b8 → b < 48 → b6 b = nI s → b7 b = nI t' → b8 b = nI q' → s ≤ 600 → 1 ≤ t' → t' ≤ 13 → q' ≤ 12 → fz_B n a1 a2 (fz_cd c t l r) e' p d s t' q' →
      post (nI b) (nI n, hgt, pc, st, cnt, nI B', nI e', D, a1, a2, a3, a4, b5, b6, b7, b8, c, t, l, r, g)) :
    wX_blockAt_46 post (nI p) (nI d) (nI (9 * p + d)) (nI n) hgt pc st cnt (nI B) (nI e) dn a1 a2 a3 a4 a5 a6 a7 a8 a9 a10 a11 a12 a13 := by
  have cx : (nI (9 * p + d)).toNatClampNeg = 9 * p + d := nI_clamp (by omega)
  have cB : (nI B).toNatClampNeg = B := nI_clamp (by omega)
  unfold wX_blockAt_46
  rw [cx, cB, fz_s16 B (by omega), fz_s16 e (by omega)]
  refine nm_r (nI_1 B) ⟨pk_in (9 * p + d) 297 (by omega), nm_e ⟨pk_in B 48 hB, nm_e ?_⟩⟩
  refine fw_translate hok hp hd he hB (fun e' t' q' D c t l r g AG e1 e2 t1 t2 q1 BB => ?_)
  refine H (B + 1) e' B e t' q' D _ _ _ _ c t l r g (by omega) e2 ?_ hB pk_us pk_us pk_us he t1 t2 q1 BB
  intro i hi
  by_cases ei : i = 9 * p + d
  · refine Or.inr ⟨B, e, t', q', by omega, by rw [ei, pk_us], pk_us, pk_us, pk_us, he, t1, t2, q1, ?_⟩
    rw [show i / 9 = p by omega, show i % 9 = d by omega]
    exact BB
  · rcases hT i hi with h | ⟨b, s, t0, q0, h1, h2, h3, h4, h5, h6, h7, h8, h9, h10⟩
    · exact Or.inl (by rw [pk_un ei, h])
    · exact Or.inr ⟨b, s, t0, q0, by omega, by rw [pk_un ei, h2], by rw [pk_un (by omega), h3], by rw [pk_un (by omega), h4], by rw [pk_un (by omega), h5], h6, h7, h8, h9, fz_B_ag h10 AG e1⟩
theorem fw_ba42 {post : Int32 → St1 → Prop} {hgt pc st cnt bc ce dn : Int32} {a1 a2 a3 a4 a5 a6 a7 a8 a9 a10 a11 a12 a13 : Nat → Int32} {n p d : Nat} (hok : fz_ok n a1 a2) (hp : p ≤ 32) (hd : d ≤ 8)
    (H : ∀ B' e' b s t' q' : Nat, ∀ D b5 b6 b7 b8 c t l r g, B' ≤ 48 → e' ≤ 640 → fz_TB n a1 a2 (fz_cd c t l r) e' B' b5 b6 b7 b8 → b < 48 → b6 b = nI s → b7 b = nI t' → b8 b = nI q' → s ≤ 600 → 1 ≤ t' → t' ≤ 13 → q' ≤ 12 → fz_B n a1 a2 (fz_cd c t l r) e' p d s t' q' →
      post (nI b) (nI n, hgt, pc, st, cnt, nI B', nI e', D, a1, a2, a3, a4, b5, b6, b7, b8, c, t, l, r, g)) :
    wX_blockAt_42 post (nI p) (nI d) (nI (9 * p + d)) (nI n) hgt pc st cnt bc ce dn a1 a2 a3 a4 a5 a6 a7 a8 a9 a10 a11 a12 a13 := by
  unfold wX_blockAt_42
  refine fw_forget (fun b hb => ?_)
  exact fw_ba46 (B := 0) (e := 0) hok hp hd (by omega) (by omega) (fun i hi => Or.inl (hb i hi)) H
theorem fw_blockAt {post : Int32 → St1 → Prop} {hgt pc st cnt dn : Int32} {a1 a2 a3 a4 a5 a6 a7 a8 a9 a10 a11 a12 a13 : Nat → Int32} {n p d B e : Nat} (hok : fz_ok n a1 a2) (hp : p ≤ 32) (hd : d ≤ 8) (hB : B ≤ 48) (he : e ≤ 640) (hT : fz_TB n a1 a2 (fz_cd a9 a10 a11 a12) e B a5 a6 a7 a8)
    (H : ∀ B' e' b s t' q' : Nat, ∀ D b5 b6 b7 b8 c t l r g, B' ≤ 48 → e' ≤ 640 → fz_TB n a1 a2 (fz_cd c t l r) e' B' b5 b6 b7 b8 → b < 48 → b6 b = nI s → b7 b = nI t' → b8 b = nI q' → s ≤ 600 → 1 ≤ t' → t' ≤ 13 → q' ≤ 12 → fz_B n a1 a2 (fz_cd c t l r) e' p d s t' q' →
      post (nI b) (nI n, hgt, pc, st, cnt, nI B', nI e', D, a1, a2, a3, a4, b5, b6, b7, b8, c, t, l, r, g)) :
    wpX_blockAt post (nI n, hgt, pc, st, cnt, nI B, nI e, dn, a1, a2, a3, a4, a5, a6, a7, a8, a9, a10, a11, a12, a13) (nI p) (nI d) := by
  have ex : (9 : Int32) * nI p + nI d = nI (9 * p + d) := by
    rw [← nI_add, ← pk_mul]
    rfl
  have cx : (nI (9 * p + d)).toNatClampNeg = 9 * p + d := nI_clamp (by omega)
  have ix : vp_in (nI (9 * p + d)) 297 := pk_in (9 * p + d) 297 (by omega)
  unfold wpX_blockAt
  dsimp only
  refine nm_r ex ⟨ix, ?_⟩
  rw [cx]
  rcases hT (9 * p + d) (by omega) with h | ⟨b, s, t0, q0, h1, h2, h3, h4, h5, h6, h7, h8, h9, h10⟩
  · refine br_t (by rw [h]; decide) (pk_le 48 B (fun _ => fw_ba42 hok hp hd H) (fun z => pk_le e 600 (fun y => fw_ba46 hok hp hd z y hT H) (fun _ => fw_ba42 hok hp hd H)))
  · refine br_f (by rw [h2]; exact nI_pos (by omega)) ⟨ix, ?_⟩
    rw [h2]
    rw [show (9 * p + d) / 9 = p by omega, show (9 * p + d) % 9 = d by omega] at h10
    exact H B e b s t0 q0 dn a5 a6 a7 a8 a9 a10 a11 a12 a13 hB he hT (by omega) h3 h4 h5 h6 h7 h8 h9 h10
/-! ### the object and its abstract machine -/
def fz_X (n : Nat) (o a : Nat → Int32) (M : fz_M) (u : St1) : Prop := match u with
  | (len, hgt, pc, st, cnt, bc, ce, dn, a1, a2, a3, a4, a5, a6, a7, a8, a9, a10, a11, a12, a13) => len = nI n ∧ hgt = nI M.1 ∧ pc = nI M.2.2.2.1 ∧ st = M.2.2.2.2.1 ∧ cnt = M.2.2.2.2.2 ∧ a1 = o ∧ a2 = a ∧ a3 = M.2.2.1 ∧ (∀ i, i < M.1 → a4 i = M.2.1 i) ∧ M.1 ≤ 8 ∧ M.2.2.2.1 ≤ 32 ∧ fz_ok n o a ∧ ∃ B e : Nat, bc = nI B ∧ ce = nI e ∧ B ≤ 48 ∧ e ≤ 640 ∧ fz_TB n o a (fz_cd a9 a10 a11 a12) e B a5 a6 a7 a8
theorem fw_run23 {post : Int32 → St1 → Prop} {n : Nat} {o a : Nat → Int32} :
    ∀ (fu k : Nat) (M : fz_M) (len hgt pc st cnt bc ce dn : Int32) (a1 a2 a3 a4 a5 a6 a7 a8 a9 a10 a11 a12 a13 : Nat → Int32), k < fu → k ≤ 200 → fz_X n o a M (len, hgt, pc, st, cnt, bc, ce, dn, a1, a2, a3, a4, a5, a6, a7, a8, a9, a10, a11, a12, a13) → (∀ u', fz_X n o a (fz_run n o a k M) u' → post (fz_run n o a k M).2.2.2.2.1 u') → wX_run_23 post fu (nI k) len hgt pc st cnt bc ce dn a1 a2 a3 a4 a5 a6 a7 a8 a9 a10 a11 a12 a13 := by
  intro fu
  induction fu with
  | zero =>
    intro k M len hgt pc st cnt bc ce dn a1 a2 a3 a4 a5 a6 a7 a8 a9 a10 a11 a12 a13 h1
    omega
  | succ fu ih =>
    intro k M len hgt pc st cnt bc ce dn a1 a2 a3 a4 a5 a6 a7 a8 a9 a10 a11 a12 a13 h1 h2 hX H
    obtain ⟨h, F, C, p, s0, c0⟩ := M
    obtain ⟨x1, x2, x3, x4, x5, x6, x7, x8, x9, x10, x11, x12, B, e, x13, x14, x15, x16, x17⟩ := id hX
    dsimp only at x2 x3 x4 x5 x8 x9 x10 x11
    subst x1 x2 x3 x4 x5 x6 x7 x8 x13 x14
    refine pk_le k 0 (fun z => ?_) (fun z => ?_)
    · obtain rfl : k = 0 := by omega
      exact H _ hX
    refine br_c (fun y => ?_) (fun y => ?_)
    rotate_left
    · have er : fz_run n a1 a2 k (h, F, a3, p, st, cnt) = (h, F, a3, p, st, cnt) := fz_run_st k y
      rw [er] at H
      exact H _ hX
    subst y
    refine fw_blockAt x12 x11 x10 x15 x16 x17 (fun B' e' b s t' q' D b5 b6 b7 b8 c t l r g y1 y2 y3 y4 y5 y6 y7 y8 y9 y10 y11 y12 => ?_)
    have cb : (nI b).toNatClampNeg = b := nI_clamp (by omega)
    have ib : vp_in (nI b) 48 := pk_in b 48 y4
    refine ⟨ib, ?_⟩
    rw [cb, y5, y6, y7]
    refine pk_lt k t' (fun z2 => ?_) (fun z2 => ?_)
    · obtain ⟨k', rfl⟩ : ∃ k', k = k' + 1 := ⟨k - 1, by omega⟩
      refine nm_r (pk_m1 k') ?_
      refine fw_tryOne x12 x10 x11 (fun h' F' C' p' s' c' E => ?_)
      have EM : fz_eq (h', F', C', p', s', c') (fz_one n a1 a2 (h, F, a3, p, 0, cnt)) := by
        rw [← E]
        exact fz_one_eq ⟨rfl, x9, rfl⟩
      have bd := fz_one_bd (M := (h, F, a3, p, 0, cnt)) x12 x10 x11
      have er : fz_run n a1 a2 (k' + 1) (h, F, a3, p, 0, cnt) = fz_run n a1 a2 k' (fz_one n a1 a2 (h, F, a3, p, 0, cnt)) := by
        rw [Nat.add_comm k' 1, fz_run_add]
        rfl
      rw [er] at H
      generalize fz_one n a1 a2 (h, F, a3, p, 0, cnt) = M1 at EM bd H
      obtain ⟨h1', F1, C1, p1, s1, c1⟩ := M1
      obtain ⟨e1, e2, e3⟩ := EM
      have e1' : h' = h1' := e1
      have e3' : (C', p', s', c') = (C1, p1, s1, c1) := e3
      subst e1'
      cases e3'
      refine ih k' (h', F1, C', p', s', c') _ _ _ _ _ _ _ _ _ _ _ _ _ _ _ _ _ _ _ _ _ (by omega) (by omega) ?_ H
      exact ⟨rfl, rfl, rfl, rfl, rfl, rfl, rfl, rfl, e2, bd.1, bd.2, x12, B', e', rfl, rfl, y1, y2, y3⟩
    · refine ⟨ib, nm_r (pk_sub z2) ⟨ib, nm_e ⟨ib, ?_⟩⟩⟩
      obtain ⟨m, b1, b2, b3, b4⟩ := y12
      refine fw_execute y2 b1 b2 b3 (fun h' F' C' p' s' c' E => ?_)
      have EM : fz_eq (h', F', C', p', s', c') (fz_run n a1 a2 t' (h, F, a3, p, 0, cnt)) := by
        have E0 : fz_eq (h, a4, a3, p, 0, cnt) (h, F, a3, p, 0, cnt) := ⟨rfl, x9, rfl⟩
        rw [← E]
        exact fz_eq_symm (fz_eq_trans (fz_run_eq t' (fz_eq_symm E0)) (b4 a4 a3 cnt))
      have bd := fz_run_bd t' (M := (h, F, a3, p, 0, cnt)) x12 x10 x11
      have er : fz_run n a1 a2 k (h, F, a3, p, 0, cnt) = fz_run n a1 a2 (k - t') (fz_run n a1 a2 t' (h, F, a3, p, 0, cnt)) := by
        rw [← fz_run_add]
        congr 1
        omega
      rw [er] at H
      generalize fz_run n a1 a2 t' (h, F, a3, p, 0, cnt) = M1 at EM bd H
      obtain ⟨h1', F1, C1, p1, s1, c1⟩ := M1
      obtain ⟨e1, e2, e3⟩ := EM
      have e1' : h' = h1' := e1
      have e3' : (C', p', s', c') = (C1, p1, s1, c1) := e3
      subst e1'
      cases e3'
      refine ih (k - t') (h', F1, C', p', s', c') _ _ _ _ _ _ _ _ _ _ _ _ _ _ _ _ _ _ _ _ _ (by omega) (by omega) ?_ H
      exact ⟨rfl, rfl, rfl, rfl, rfl, rfl, rfl, rfl, e2, bd.1, bd.2, x12, B', e', rfl, rfl, y1, y2, y3⟩
theorem fw_run {post : Int32 → St1 → Prop} {n : Nat} {o a : Nat → Int32} {k : Nat} {M : fz_M} {u : St1} (hk : k ≤ 200) (hX : fz_X n o a M u) (H : ∀ u', fz_X n o a (fz_run n o a k M) u' → post (fz_run n o a k M).2.2.2.2.1 u') : wpX_run post u (nI k) := by
  obtain ⟨len, hgt, pc, st, cnt, bc, ce, dn, a1, a2, a3, a4, a5, a6, a7, a8, a9, a10, a11, a12, a13⟩ := u
  exact br_t (nI_pos' (by omega)) (br_t (nI_le (b := 200) hk (by decide)) ⟨k + 1, fw_run23 (k + 1) k M _ _ _ _ _ _ _ _ _ _ _ _ _ _ _ _ _ _ _ _ _ (by omega) hk hX H⟩)
end
section
theorem fw_start {post : St1 → Prop} {n : Nat} {o a : Nat → Int32} {M : fz_M} {u : St1} (hX : fz_X n o a M u) (H : ∀ u', fz_X n o a (0, M.2.1, M.2.2.1, 0, 0, 0) u' → post u') : wpX_start post u := by
  obtain ⟨len, hgt, pc, st, cnt, bc, ce, dn, a1, a2, a3, a4, a5, a6, a7, a8, a9, a10, a11, a12, a13⟩ := u
  obtain ⟨x1, x2, x3, x4, x5, x6, x7, x8, x9, x10, x11, x12, x13⟩ := hX
  exact H _ ⟨x1, rfl, rfl, rfl, rfl, x6, x7, x8, fun i hi => absurd hi (Nat.not_lt_zero i), Nat.zero_le _, Nat.zero_le _, x12, x13⟩
theorem fw_poke {post : Int32 → St1 → Prop} {n : Nat} {o a : Nat → Int32} {M : fz_M} {u : St1} {j : Nat} {v : Int32} (hj : j < 8) (hX : fz_X n o a M u) (H : ∀ r u', fz_X n o a (M.1, M.2.1, upd M.2.2.1 j v, M.2.2.2) u' → post r u') : wpX_poke post u (nI j) v := by
  obtain ⟨len, hgt, pc, st, cnt, bc, ce, dn, a1, a2, a3, a4, a5, a6, a7, a8, a9, a10, a11, a12, a13⟩ := u
  obtain ⟨x1, x2, x3, x4, x5, x6, x7, x8, x9, x10, x11, x12, x13⟩ := hX
  refine br_f (nI_pos (by omega)) (br_t (nI_le (b := 7) (by omega) (by decide)) ⟨pk_in j 8 hj, nm_e (H _ _ ?_)⟩)
  refine ⟨x1, x2, x3, x4, x5, x6, x7, ?_, x9, x10, x11, x12, x13⟩
  rw [x8, nI_clamp (by omega)]
theorem fw_isInst (x v : Int32) : ∃ r : Int32, (r = 0 ∨ (r = 1 ∧ fz_ins x v)) ∧ (x = 0 → r = 1) ∧ ∀ (post : Int32 → Prop) (len hgt pc st cnt bc ce dn : Int32) (a1 a2 a3 a4 a5 a6 a7 a8 a9 a10 a11 a12 a13 : Nat → Int32), post r → wpX_isInstruction post (len, hgt, pc, st, cnt, bc, ce, dn, a1, a2, a3, a4, a5, a6, a7, a8, a9, a10, a11, a12, a13) x v := by
  by_cases h1 : x < 0
  · exact ⟨0, Or.inl rfl, fun e => absurd h1 (by rw [e]; decide), fun post len hgt pc st cnt bc ce dn a1 a2 a3 a4 a5 a6 a7 a8 a9 a10 a11 a12 a13 hp => br_t h1 hp⟩
  by_cases h2 : x ≤ 13
  rotate_left
  · exact ⟨0, Or.inl rfl, fun e => absurd (show x ≤ 13 by rw [e]; decide) h2, fun post len hgt pc st cnt bc ce dn a1 a2 a3 a4 a5 a6 a7 a8 a9 a10 a11 a12 a13 hp => br_f h1 (br_f h2 hp)⟩
  obtain ⟨k, hk, rfl⟩ := nI_of2 (M := 13) (n := 13) (by decide) h1 h2
  by_cases h3 : k = 0
  · subst h3
    exact ⟨1, Or.inr ⟨rfl, 0, by omega, rfl, Or.inl rfl⟩, fun _ => rfl, fun post len hgt pc st cnt bc ce dn a1 a2 a3 a4 a5 a6 a7 a8 a9 a10 a11 a12 a13 hp => br_f h1 (br_t h2 (br_t rfl hp))⟩
  have h3' : ¬ nI k = 0 := nI_ne0 (by omega) (by omega)
  by_cases h4 : k = 13
  · subst h4
    exact ⟨1, Or.inr ⟨rfl, 13, by omega, rfl, Or.inr (Or.inl rfl)⟩, fun _ => rfl, fun post len hgt pc st cnt bc ce dn a1 a2 a3 a4 a5 a6 a7 a8 a9 a10 a11 a12 a13 hp => br_f h1 (br_t h2 (br_f h3' (br_t rfl hp)))⟩
  have h4' : ¬ nI k = 13 := fun z => h4 ((nI_eq (by omega) (by omega)).mp z)
  by_cases h5 : k < 10
  · by_cases h6 : k < 8
    · by_cases h7 : v < 0
      · exact ⟨0, Or.inl rfl, fun e => absurd e h3', fun post len hgt pc st cnt bc ce dn a1 a2 a3 a4 a5 a6 a7 a8 a9 a10 a11 a12 a13 hp => br_f h1 (br_t h2 (br_f h3' (br_f h4' (br_t (nI_lt h5 (by decide)) (br_t (nI_lt h6 (by decide)) (br_t h7 hp))))))⟩
      · by_cases h8 : 7 < v
        · exact ⟨0, Or.inl rfl, fun e => absurd e h3', fun post len hgt pc st cnt bc ce dn a1 a2 a3 a4 a5 a6 a7 a8 a9 a10 a11 a12 a13 hp => br_f h1 (br_t h2 (br_f h3' (br_f h4' (br_t (nI_lt h5 (by decide)) (br_t (nI_lt h6 (by decide)) (br_f h7 (br_t h8 hp)))))))⟩
        · obtain ⟨j, hj, rfl⟩ := nI_of2 (M := 7) (n := 7) (by decide) h7 (Int32.not_lt.mp h8)
          exact ⟨1, Or.inr ⟨rfl, k, by omega, rfl, Or.inr (Or.inr ⟨j, rfl, by omega, by omega, by omega⟩)⟩, fun e => absurd e h3', fun post len hgt pc st cnt bc ce dn a1 a2 a3 a4 a5 a6 a7 a8 a9 a10 a11 a12 a13 hp => br_f h1 (br_t h2 (br_f h3' (br_f h4' (br_t (nI_lt h5 (by decide)) (br_t (nI_lt h6 (by decide)) (br_f h7 (br_f h8 hp)))))))⟩
    · have h6' : ¬ nI k < 8 := nI_nlt (b := 8) (by omega) (by omega)
      by_cases h7 : v < 1
      · exact ⟨0, Or.inl rfl, fun e => absurd e h3', fun post len hgt pc st cnt bc ce dn a1 a2 a3 a4 a5 a6 a7 a8 a9 a10 a11 a12 a13 hp => br_f h1 (br_t h2 (br_f h3' (br_f h4' (br_t (nI_lt h5 (by decide)) (br_f h6' (br_t h7 hp))))))⟩
      · by_cases h8 : 7 < v
        · exact ⟨0, Or.inl rfl, fun e => absurd e h3', fun post len hgt pc st cnt bc ce dn a1 a2 a3 a4 a5 a6 a7 a8 a9 a10 a11 a12 a13 hp => br_f h1 (br_t h2 (br_f h3' (br_f h4' (br_t (nI_lt h5 (by decide)) (br_f h6' (br_f h7 (br_t h8 hp)))))))⟩
        · have h7' : ¬ v < 0 := fun z => h7 (Int32.lt_trans z (by decide))
          obtain ⟨j, hj, rfl⟩ := nI_of2 (M := 7) (n := 7) (by decide) h7' (Int32.not_lt.mp h8)
          have hj1 : 1 ≤ j := by
            rcases Nat.lt_or_ge j 1 with z | z
            · exact absurd (nI_lt (b := 1) z (by decide)) h7
            · exact z
          exact ⟨1, Or.inr ⟨rfl, k, by omega, rfl, Or.inr (Or.inr ⟨j, rfl, by omega, by omega, by omega⟩)⟩, fun e => absurd e h3', fun post len hgt pc st cnt bc ce dn a1 a2 a3 a4 a5 a6 a7 a8 a9 a10 a11 a12 a13 hp => br_f h1 (br_t h2 (br_f h3' (br_f h4' (br_t (nI_lt h5 (by decide)) (br_f h6' (br_f h7 (br_f h8 hp)))))))⟩
  · have h5' : ¬ nI k < 10 := nI_nlt (b := 10) (by omega) (by omega)
    by_cases h7 : v < 0
    · exact ⟨0, Or.inl rfl, fun e => absurd e h3', fun post len hgt pc st cnt bc ce dn a1 a2 a3 a4 a5 a6 a7 a8 a9 a10 a11 a12 a13 hp => br_f h1 (br_t h2 (br_f h3' (br_f h4' (br_f h5' (br_t h7 hp)))))⟩
    · by_cases h8 : 31 < v
      · exact ⟨0, Or.inl rfl, fun e => absurd e h3', fun post len hgt pc st cnt bc ce dn a1 a2 a3 a4 a5 a6 a7 a8 a9 a10 a11 a12 a13 hp => br_f h1 (br_t h2 (br_f h3' (br_f h4' (br_f h5' (br_f h7 (br_t h8 hp))))))⟩
      · obtain ⟨j, hj, rfl⟩ := nI_of2 (M := 31) (n := 31) (by decide) h7 (Int32.not_lt.mp h8)
        exact ⟨1, Or.inr ⟨rfl, k, by omega, rfl, Or.inr (Or.inr ⟨j, rfl, by omega, by omega, by omega⟩)⟩, fun e => absurd e h3', fun post len hgt pc st cnt bc ce dn a1 a2 a3 a4 a5 a6 a7 a8 a9 a10 a11 a12 a13 hp => br_f h1 (br_t h2 (br_f h3' (br_f h4' (br_f h5' (br_f h7 (br_f h8 hp))))))⟩
theorem fz_ins_b {x v : Int32} (h : fz_ins x v) : x.toInt8.toInt32 = x := by
  obtain ⟨k, hk, rfl, _⟩ := h
  exact fz_b8 k (by omega)
theorem fw_emit (n : Nat) (o a : Nat → Int32) (hn : n ≤ 32) (x v : Int32) : ∃ (r : Int32) (n' : Nat) (o' a' : Nat → Int32), ((r < 0 ∧ n' = n) ∨ (r = nI n' ∧ n' = n + 1)) ∧ (x = 0 → n < 32 → n' = n + 1) ∧ ∀ (post : Int32 → St1 → Prop) (M : fz_M) (u : St1), fz_X n o a M u → (∀ u', fz_X n' o' a' M u' → post r u') → wpX_emit post u x v := by
  by_cases h : n < 32
  · obtain ⟨r, hr, hr0, hI⟩ := fw_isInst x v
    rcases hr with rfl | ⟨rfl, hi⟩
    · refine ⟨-1, n, o, a, Or.inl ⟨by decide, rfl⟩, fun e => absurd (hr0 e) (by decide), fun post M u hX H => ?_⟩
      obtain ⟨len, hgt, pc, st, cnt, bc, ce, dn, a1, a2, a3, a4, a5, a6, a7, a8, a9, a10, a11, a12, a13⟩ := u
      have x1 : len = nI n := hX.1
      refine pk_lt n 32 (fun _ => hI _ _ _ _ _ _ _ _ _ _ _ _ _ _ _ _ _ _ _ _ _ _ (br_t rfl (H _ hX))) (fun z => absurd z (by omega)) x1
    · refine ⟨nI (n + 1), n + 1, upd o n x, upd a n v, Or.inr ⟨rfl, rfl⟩, fun _ _ => rfl, fun post M u hX H => ?_⟩
      obtain ⟨len, hgt, pc, st, cnt, bc, ce, dn, a1, a2, a3, a4, a5, a6, a7, a8, a9, a10, a11, a12, a13⟩ := u
      obtain ⟨x1, x2, x3, x4, x5, x6, x7, x8, x9, x10, x11, x12, x13⟩ := hX
      subst x1
      have cn : (nI n).toNatClampNeg = n := nI_clamp (by omega)
      refine pk_lt n 32 (fun _ => hI _ _ _ _ _ _ _ _ _ _ _ _ _ _ _ _ _ _ _ _ _ _ (br_f (by decide) ⟨pk_in n 32 h, nm_r (e' := upd a1 n x) (by rw [cn, fz_ins_b hi]) ⟨pk_in n 32 h, nm_r (e' := upd a2 n v) (by rw [cn]) (nm_r (nI_1 n) ?_)⟩⟩)) (fun z => absurd z (by omega))
      refine fw_forget (fun b hb => H _ ?_)
      refine ⟨rfl, x2, x3, x4, x5, by rw [x6], by rw [x7], x8, x9, x10, x11, ⟨by omega, fun i hi' => ?_⟩, 0, 0, rfl, rfl, by omega, by omega, fun i hi' => Or.inl (hb i hi')⟩
      by_cases e : i = n
      · rw [e, pk_us, pk_us]
        exact hi
      · rw [pk_un e, pk_un e]
        exact x12.2 i (by omega)
  · refine ⟨-2, n, o, a, Or.inl ⟨by decide, rfl⟩, fun _ z => absurd z h, fun post M u hX H => ?_⟩
    obtain ⟨len, hgt, pc, st, cnt, bc, ce, dn, a1, a2, a3, a4, a5, a6, a7, a8, a9, a10, a11, a12, a13⟩ := u
    have x1 : len = nI n := hX.1
    exact pk_lt n 32 (fun z => absurd z h) (fun z => H _ hX) x1
theorem fw_patch (n : Nat) (o a : Nat → Int32) (hn : n ≤ 32) (p x v : Int32) : ∃ (o' a' : Nat → Int32), ∀ (post : Int32 → St1 → Prop) (M : fz_M) (u : St1), fz_X n o a M u → (∀ r u', fz_X n o' a' M u' → post r u') → wpX_patch post u p x v := by
  rcases pk_ix p (n := n) (by omega) with h | h | ⟨j, hj, rfl⟩
  · refine ⟨o, a, fun post M u hX H => ?_⟩
    obtain ⟨len, hgt, pc, st, cnt, bc, ce, dn, a1, a2, a3, a4, a5, a6, a7, a8, a9, a10, a11, a12, a13⟩ := u
    exact br_t h (H _ _ hX)
  · refine ⟨o, a, fun post M u hX H => ?_⟩
    obtain ⟨len, hgt, pc, st, cnt, bc, ce, dn, a1, a2, a3, a4, a5, a6, a7, a8, a9, a10, a11, a12, a13⟩ := u
    have x1 : len = nI n := hX.1
    subst x1
    exact br_c (fun _ => H _ _ hX) (fun _ => br_t h (H _ _ hX))
  · obtain ⟨r, hr, hr0, hI⟩ := fw_isInst x v
    rcases hr with rfl | ⟨rfl, hi⟩
    · refine ⟨o, a, fun post M u hX H => ?_⟩
      obtain ⟨len, hgt, pc, st, cnt, bc, ce, dn, a1, a2, a3, a4, a5, a6, a7, a8, a9, a10, a11, a12, a13⟩ := u
      have x1 : len = nI n := hX.1
      subst x1
      exact br_f (nI_pos (by omega)) (br_f (nI_ge hj (by omega)) (hI _ _ _ _ _ _ _ _ _ _ _ _ _ _ _ _ _ _ _ _ _ _ (br_t rfl (H _ _ hX))))
    · refine ⟨upd o j x, upd a j v, fun post M u hX H => ?_⟩
      obtain ⟨len, hgt, pc, st, cnt, bc, ce, dn, a1, a2, a3, a4, a5, a6, a7, a8, a9, a10, a11, a12, a13⟩ := u
      obtain ⟨x1, x2, x3, x4, x5, x6, x7, x8, x9, x10, x11, x12, x13⟩ := hX
      subst x1
      have cn : (nI j).toNatClampNeg = j := nI_clamp (by omega)
      refine br_f (nI_pos (by omega)) (br_f (nI_ge hj (by omega)) (hI _ _ _ _ _ _ _ _ _ _ _ _ _ _ _ _ _ _ _ _ _ _ (br_f (by decide) ⟨pk_in j 32 (by omega), nm_r (e' := upd a1 j x) (by rw [cn, fz_ins_b hi]) ⟨pk_in j 32 (by omega), nm_r (e' := upd a2 j v) (by rw [cn]) ?_⟩⟩)))
      refine fw_forget (fun b hb => H _ _ ?_)
      refine ⟨rfl, x2, x3, x4, x5, by rw [x6], by rw [x7], x8, x9, x10, x11, ⟨by omega, fun i hi' => ?_⟩, 0, 0, rfl, rfl, by omega, by omega, fun i hi' => Or.inl (hb i hi')⟩
      by_cases e : i = j
      · rw [e, pk_us, pk_us]
        exact hi
      · rw [pk_un e, pk_un e]
        exact x12.2 i hi'
theorem fw_init {post : St1 → Prop} (H : ∀ u', fz_X 0 (fun _ => 0) (fun _ => 0) (0, fun _ => 0, fun _ => 0, 0, 0, 0) u' → post u') : wpX_init post 13 3091 (0, 0, 0, 0, 0, 0, 0, 0) := by
  unfold wpX_init
  dsimp only
  refine ⟨by decide, by decide, by decide, by decide, by decide, by decide, by decide, by decide, by decide, by decide, by decide, by decide, by decide, by decide, by decide, by decide, by decide, by decide, by decide, by decide, by decide, by decide, by decide, by decide, by decide, by decide, ?_⟩
  refine fw_forget (fun b hb => H _ ?_)
  exact ⟨rfl, rfl, rfl, rfl, rfl, rfl, rfl, rfl, fun i hi => absurd hi (Nat.not_lt_zero i), Nat.zero_le _, Nat.zero_le _, ⟨by omega, fun i hi => absurd hi (Nat.not_lt_zero i)⟩, 0, 0, rfl, rfl, by omega, by omega, fun i hi => Or.inl (hb i hi)⟩
theorem fw_st {post : Int32 → Prop} {n : Nat} {o a : Nat → Int32} {M : fz_M} {u : St1} {i : Nat} (hi : i < 8) (hX : fz_X n o a M u) (H : post (if i < M.1 then M.2.1 (M.1 - 1 - i) else 0)) : wpX_st post u (nI i) := by
  obtain ⟨len, hgt, pc, st, cnt, bc, ce, dn, a1, a2, a3, a4, a5, a6, a7, a8, a9, a10, a11, a12, a13⟩ := u
  obtain ⟨x1, x2, x3, x4, x5, x6, x7, x8, x9, x10, x11, x12, x13⟩ := hX
  refine br_f (nI_pos (by omega)) (pk_lt i M.1 (fun z => ?_) (fun z => ?_) rfl x2)
  · have e : hgt - 1 - nI i = nI (M.1 - 1 - i) := by rw [x2, fw_m1 (by omega), pk_sub (by omega)]
    refine ⟨pk_in (M.1 - 1 - i) 10 (by omega) e, ?_⟩
    rw [if_pos z] at H
    rw [e, nI_clamp (by omega), x9 _ (by omega)]
    exact H
  · rw [if_neg (by omega)] at H
    exact H
theorem fw_memory {post : Int32 → Prop} {n : Nat} {o a : Nat → Int32} {M : fz_M} {u : St1} {i : Nat} (hi : i < 8) (hX : fz_X n o a M u) (H : post (M.2.2.1 i)) : wpX_memory post u (nI i) := by
  obtain ⟨len, hgt, pc, st, cnt, bc, ce, dn, a1, a2, a3, a4, a5, a6, a7, a8, a9, a10, a11, a12, a13⟩ := u
  obtain ⟨x1, x2, x3, x4, x5, x6, x7, x8, x9, x10, x11, x12, x13⟩ := hX
  refine br_f (nI_pos (by omega)) (br_t (nI_le (b := 7) (by omega) (by decide)) ⟨pk_in i 8 hi, ?_⟩)
  rw [nI_clamp (by omega), x8]
  exact H
theorem fw_same {post : Int32 → St2 → Prop} {n : Nat} {o a : Nat → Int32} {M : fz_M} {len_x hgt_x pc_x st_x cnt_x bc_x ce_x dn_x : Int32} {a1_x a2_x a3_x a4_x a5_x a6_x a7_x a8_x a9_x a10_x a11_x a12_x a13_x : Nat → Int32} {len_y hgt_y pc_y st_y cnt_y bc_y ce_y dn_y : Int32} {a1_y a2_y a3_y a4_y a5_y a6_y a7_y a8_y a9_y a10_y a11_y a12_y a13_y : Nat → Int32} (X : fz_X n o a M (len_x, hgt_x, pc_x, st_x, cnt_x, bc_x, ce_x, dn_x, a1_x, a2_x, a3_x, a4_x, a5_x, a6_x, a7_x, a8_x, a9_x, a10_x, a11_x, a12_x, a13_x)) (Y : fz_X n o a M (len_y, hgt_y, pc_y, st_y, cnt_y, bc_y, ce_y, dn_y, a1_y, a2_y, a3_y, a4_y, a5_y, a6_y, a7_y, a8_y, a9_y, a10_y, a11_y, a12_y, a13_y))
    (H : ∀ (len_p hgt_p pc_p st_p cnt_p bc_p ce_p dn_p : Int32) (a1_p a2_p a3_p a4_p a5_p a6_p a7_p a8_p a9_p a10_p a11_p a12_p a13_p : Nat → Int32) (len_q hgt_q pc_q st_q cnt_q bc_q ce_q dn_q : Int32) (a1_q a2_q a3_q a4_q a5_q a6_q a7_q a8_q a9_q a10_q a11_q a12_q a13_q : Nat → Int32), fz_X n o a M (len_p, hgt_p, pc_p, st_p, cnt_p, bc_p, ce_p, dn_p, a1_p, a2_p, a3_p, a4_p, a5_p, a6_p, a7_p, a8_p, a9_p, a10_p, a11_p, a12_p, a13_p) → fz_X n o a M (len_q, hgt_q, pc_q, st_q, cnt_q, bc_q, ce_q, dn_q, a1_q, a2_q, a3_q, a4_q, a5_q, a6_q, a7_q, a8_q, a9_q, a10_q, a11_q, a12_q, a13_q) → post 1 (len_p, hgt_p, pc_p, st_p, cnt_p, bc_p, ce_p, dn_p, a1_p, a2_p, a3_p, a4_p, a5_p, a6_p, a7_p, a8_p, a9_p, a10_p, a11_p, a12_p, a13_p, len_q, hgt_q, pc_q, st_q, cnt_q, bc_q, ce_q, dn_q, a1_q, a2_q, a3_q, a4_q, a5_q, a6_q, a7_q, a8_q, a9_q, a10_q, a11_q, a12_q, a13_q)) : wpL_same post (len_x, hgt_x, pc_x, st_x, cnt_x, bc_x, ce_x, dn_x, a1_x, a2_x, a3_x, a4_x, a5_x, a6_x, a7_x, a8_x, a9_x, a10_x, a11_x, a12_x, a13_x, len_y, hgt_y, pc_y, st_y, cnt_y, bc_y, ce_y, dn_y, a1_y, a2_y, a3_y, a4_y, a5_y, a6_y, a7_y, a8_y, a9_y, a10_y, a11_y, a12_y, a13_y) := by
  unfold wpL_same wpX_depth wpX_place wpX_executed
  dsimp only
  refine br_t (X.2.1.trans Y.2.1.symm) (br_t (X.2.2.1.trans Y.2.2.1.symm) (br_t (X.2.2.2.2.1.trans Y.2.2.2.2.1.symm) ?_))
  refine fw_run (k := 0) (by omega) X (fun u' X' => ?_)
  obtain ⟨len_p, hgt_p, pc_p, st_p, cnt_p, bc_p, ce_p, dn_p, a1_p, a2_p, a3_p, a4_p, a5_p, a6_p, a7_p, a8_p, a9_p, a10_p, a11_p, a12_p, a13_p⟩ := u'
  dsimp only
  refine fw_run (k := 0) (by omega) Y (fun v' Y' => ?_)
  obtain ⟨len_q, hgt_q, pc_q, st_q, cnt_q, bc_q, ce_q, dn_q, a1_q, a2_q, a3_q, a4_q, a5_q, a6_q, a7_q, a8_q, a9_q, a10_q, a11_q, a12_q, a13_q⟩ := v'
  refine br_t rfl ?_
  have X1 : fz_X n o a M (len_p, hgt_p, pc_p, st_p, cnt_p, bc_p, ce_p, dn_p, a1_p, a2_p, a3_p, a4_p, a5_p, a6_p, a7_p, a8_p, a9_p, a10_p, a11_p, a12_p, a13_p) := X'
  have Y1 : fz_X n o a M (len_q, hgt_q, pc_q, st_q, cnt_q, bc_q, ce_q, dn_q, a1_q, a2_q, a3_q, a4_q, a5_q, a6_q, a7_q, a8_q, a9_q, a10_q, a11_q, a12_q, a13_q) := Y'
  refine pk_loop (σ := Unit) (fun f i _ => wL_same_52 post len_p hgt_p pc_p st_p cnt_p bc_p ce_p dn_p a1_p a2_p a3_p a4_p a5_p a6_p a7_p a8_p a9_p a10_p a11_p a12_p a13_p len_q hgt_q pc_q st_q cnt_q bc_q ce_q dn_q a1_q a2_q a3_q a4_q a5_q a6_q a7_q a8_q a9_q a10_q a11_q a12_q a13_q f (nI i)) (fun _ _ => True) 8 0 () (by omega) trivial ?_ ?_
  · intro f _ _
    exact pk_le 8 8 (fun _ => H len_p hgt_p pc_p st_p cnt_p bc_p ce_p dn_p a1_p a2_p a3_p a4_p a5_p a6_p a7_p a8_p a9_p a10_p a11_p a12_p a13_p len_q hgt_q pc_q st_q cnt_q bc_q ce_q dn_q a1_q a2_q a3_q a4_q a5_q a6_q a7_q a8_q a9_q a10_q a11_q a12_q a13_q X1 Y1) (fun z => absurd z (by omega))
  · intro f i _ hi _ hw
    refine pk_le 8 i (fun z => absurd z (by omega)) (fun _ => ?_)
    exact fw_st hi X1 (fw_st hi Y1 (br_t rfl (fw_memory hi X1 (fw_memory hi Y1 (br_t rfl (nm_r (nI_1 i) (hw () trivial)))))))
end
section
theorem fw_law326 {L : Nat} {xs : Nat → Int32} {J : Int32 → Int32 → Int32 → Int32 → Int32 → Int32 → Int32 → Int32 → Int32 → Int32 → (Nat → Int32) → (Nat → Int32) → (Nat → Int32) → (Nat → Int32) → (Nat → Int32) → (Nat → Int32) → (Nat → Int32) → (Nat → Int32) → (Nat → Int32) → (Nat → Int32) → (Nat → Int32) → (Nat → Int32) → (Nat → Int32) → Int32 → Int32 → Int32 → Int32 → Int32 → Int32 → Int32 → Int32 → (Nat → Int32) → (Nat → Int32) → (Nat → Int32) → (Nat → Int32) → (Nat → Int32) → (Nat → Int32) → (Nat → Int32) → (Nat → Int32) → (Nat → Int32) → (Nat → Int32) → (Nat → Int32) → (Nat → Int32) → (Nat → Int32) → Prop} {kc ks n i : Nat} {o a : Nat → Int32} {M : fz_M} {len_x hgt_x pc_x st_x cnt_x bc_x ce_x dn_x : Int32} {a1_x a2_x a3_x a4_x a5_x a6_x a7_x a8_x a9_x a10_x a11_x a12_x a13_x : Nat → Int32} {len_y hgt_y pc_y st_y cnt_y bc_y ce_y dn_y : Int32} {a1_y a2_y a3_y a4_y a5_y a6_y a7_y a8_y a9_y a10_y a11_y a12_y a13_y : Nat → Int32} (X : fz_X n o a M (len_x, hgt_x, pc_x, st_x, cnt_x, bc_x, ce_x, dn_x, a1_x, a2_x, a3_x, a4_x, a5_x, a6_x, a7_x, a8_x, a9_x, a10_x, a11_x, a12_x, a13_x)) (Y : fz_X n o a M (len_y, hgt_y, pc_y, st_y, cnt_y, bc_y, ce_y, dn_y, a1_y, a2_y, a3_y, a4_y, a5_y, a6_y, a7_y, a8_y, a9_y, a10_y, a11_y, a12_y, a13_y))
    (HJ : ∀ (len_p hgt_p pc_p st_p cnt_p bc_p ce_p dn_p : Int32) (a1_p a2_p a3_p a4_p a5_p a6_p a7_p a8_p a9_p a10_p a11_p a12_p a13_p : Nat → Int32) (len_q hgt_q pc_q st_q cnt_q bc_q ce_q dn_q : Int32) (a1_q a2_q a3_q a4_q a5_q a6_q a7_q a8_q a9_q a10_q a11_q a12_q a13_q : Nat → Int32), fz_X n o a M (len_p, hgt_p, pc_p, st_p, cnt_p, bc_p, ce_p, dn_p, a1_p, a2_p, a3_p, a4_p, a5_p, a6_p, a7_p, a8_p, a9_p, a10_p, a11_p, a12_p, a13_p) → fz_X n o a M (len_q, hgt_q, pc_q, st_q, cnt_q, bc_q, ce_q, dn_q, a1_q, a2_q, a3_q, a4_q, a5_q, a6_q, a7_q, a8_q, a9_q, a10_q, a11_q, a12_q, a13_q) → J (nI n) (nI (i + 4)) len_p hgt_p pc_p st_p cnt_p bc_p ce_p dn_p a1_p a2_p a3_p a4_p a5_p a6_p a7_p a8_p a9_p a10_p a11_p a12_p a13_p len_q hgt_q pc_q st_q cnt_q bc_q ce_q dn_q a1_q a2_q a3_q a4_q a5_q a6_q a7_q a8_q a9_q a10_q a11_q a12_q a13_q) :
    wL_law_326 (fun r => r = 1) L xs J (nI n) (nI i) kc ks len_x hgt_x pc_x st_x cnt_x bc_x ce_x dn_x a1_x a2_x a3_x a4_x a5_x a6_x a7_x a8_x a9_x a10_x a11_x a12_x a13_x len_y hgt_y pc_y st_y cnt_y bc_y ce_y dn_y a1_y a2_y a3_y a4_y a5_y a6_y a7_y a8_y a9_y a10_y a11_y a12_y a13_y := by
  unfold wL_law_326
  refine fw_same X Y ?_
  intro len_p hgt_p pc_p st_p cnt_p bc_p ce_p dn_p a1_p a2_p a3_p a4_p a5_p a6_p a7_p a8_p a9_p a10_p a11_p a12_p a13_p len_q hgt_q pc_q st_q cnt_q bc_q ce_q dn_q a1_q a2_q a3_q a4_q a5_q a6_q a7_q a8_q a9_q a10_q a11_q a12_q a13_q X' Y'
  exact br_f (by decide) (nm_r (nI_add i 4) (HJ len_p hgt_p pc_p st_p cnt_p bc_p ce_p dn_p a1_p a2_p a3_p a4_p a5_p a6_p a7_p a8_p a9_p a10_p a11_p a12_p a13_p len_q hgt_q pc_q st_q cnt_q bc_q ce_q dn_q a1_q a2_q a3_q a4_q a5_q a6_q a7_q a8_q a9_q a10_q a11_q a12_q a13_q X' Y'))
theorem fw_law272 {L : Nat} {xs : Nat → Int32} {J : Int32 → Int32 → Int32 → Int32 → Int32 → Int32 → Int32 → Int32 → Int32 → Int32 → (Nat → Int32) → (Nat → Int32) → (Nat → Int32) → (Nat → Int32) → (Nat → Int32) → (Nat → Int32) → (Nat → Int32) → (Nat → Int32) → (Nat → Int32) → (Nat → Int32) → (Nat → Int32) → (Nat → Int32) → (Nat → Int32) → Int32 → Int32 → Int32 → Int32 → Int32 → Int32 → Int32 → Int32 → (Nat → Int32) → (Nat → Int32) → (Nat → Int32) → (Nat → Int32) → (Nat → Int32) → (Nat → Int32) → (Nat → Int32) → (Nat → Int32) → (Nat → Int32) → (Nat → Int32) → (Nat → Int32) → (Nat → Int32) → (Nat → Int32) → Prop} {kc ks n i : Nat} {x6 x7 : Int32} {o a : Nat → Int32} {M : fz_M} {len_x hgt_x pc_x st_x cnt_x bc_x ce_x dn_x : Int32} {a1_x a2_x a3_x a4_x a5_x a6_x a7_x a8_x a9_x a10_x a11_x a12_x a13_x : Nat → Int32} {len_y hgt_y pc_y st_y cnt_y bc_y ce_y dn_y : Int32} {a1_y a2_y a3_y a4_y a5_y a6_y a7_y a8_y a9_y a10_y a11_y a12_y a13_y : Nat → Int32} (X : fz_X n o a M (len_x, hgt_x, pc_x, st_x, cnt_x, bc_x, ce_x, dn_x, a1_x, a2_x, a3_x, a4_x, a5_x, a6_x, a7_x, a8_x, a9_x, a10_x, a11_x, a12_x, a13_x)) (Y : fz_X n o a M (len_y, hgt_y, pc_y, st_y, cnt_y, bc_y, ce_y, dn_y, a1_y, a2_y, a3_y, a4_y, a5_y, a6_y, a7_y, a8_y, a9_y, a10_y, a11_y, a12_y, a13_y))
    (HJ : ∀ (M' : fz_M) (len_p hgt_p pc_p st_p cnt_p bc_p ce_p dn_p : Int32) (a1_p a2_p a3_p a4_p a5_p a6_p a7_p a8_p a9_p a10_p a11_p a12_p a13_p : Nat → Int32) (len_q hgt_q pc_q st_q cnt_q bc_q ce_q dn_q : Int32) (a1_q a2_q a3_q a4_q a5_q a6_q a7_q a8_q a9_q a10_q a11_q a12_q a13_q : Nat → Int32), fz_X n o a M' (len_p, hgt_p, pc_p, st_p, cnt_p, bc_p, ce_p, dn_p, a1_p, a2_p, a3_p, a4_p, a5_p, a6_p, a7_p, a8_p, a9_p, a10_p, a11_p, a12_p, a13_p) → fz_X n o a M' (len_q, hgt_q, pc_q, st_q, cnt_q, bc_q, ce_q, dn_q, a1_q, a2_q, a3_q, a4_q, a5_q, a6_q, a7_q, a8_q, a9_q, a10_q, a11_q, a12_q, a13_q) → J (nI n) (nI (i + 4)) len_p hgt_p pc_p st_p cnt_p bc_p ce_p dn_p a1_p a2_p a3_p a4_p a5_p a6_p a7_p a8_p a9_p a10_p a11_p a12_p a13_p len_q hgt_q pc_q st_q cnt_q bc_q ce_q dn_q a1_q a2_q a3_q a4_q a5_q a6_q a7_q a8_q a9_q a10_q a11_q a12_q a13_q) :
    wL_law_272 (fun r => r = 1) L xs J (nI n) (nI i) x6 x7 kc ks len_x hgt_x pc_x st_x cnt_x bc_x ce_x dn_x a1_x a2_x a3_x a4_x a5_x a6_x a7_x a8_x a9_x a10_x a11_x a12_x a13_x len_y hgt_y pc_y st_y cnt_y bc_y ce_y dn_y a1_y a2_y a3_y a4_y a5_y a6_y a7_y a8_y a9_y a10_y a11_y a12_y a13_y := by
  obtain ⟨j1, h1, e1⟩ := pk_andE x6 (m := 31) 5 (by decide)
  obtain ⟨j2, h2, e2⟩ := pk_andE x7 (m := 127) 7 (by decide)
  unfold wL_law_272
  refine nm_r e1 (nm_r e2 ?_)
  rw [nI_add]
  refine fw_run (k := j1 + j2) (by omega) X (fun u X1 => ?_)
  obtain ⟨len_p, hgt_p, pc_p, st_p, cnt_p, bc_p, ce_p, dn_p, a1_p, a2_p, a3_p, a4_p, a5_p, a6_p, a7_p, a8_p, a9_p, a10_p, a11_p, a12_p, a13_p⟩ := u
  dsimp only
  refine fw_run (k := j1) (by omega) Y (fun v Y1 => ?_)
  obtain ⟨len_q, hgt_q, pc_q, st_q, cnt_q, bc_q, ce_q, dn_q, a1_q, a2_q, a3_q, a4_q, a5_q, a6_q, a7_q, a8_q, a9_q, a10_q, a11_q, a12_q, a13_q⟩ := v
  dsimp only
  refine fw_run (k := j2) (by omega) Y1 (fun w Y2 => ?_)
  obtain ⟨len_r, hgt_r, pc_r, st_r, cnt_r, bc_r, ce_r, dn_r, a1_r, a2_r, a3_r, a4_r, a5_r, a6_r, a7_r, a8_r, a9_r, a10_r, a11_r, a12_r, a13_r⟩ := w
  dsimp only
  rw [← fz_run_add] at Y2
  refine br_c (fun _ => fw_law326 X1 Y2 (HJ _)) (fun z => br_t ?_ (fw_law326 X1 Y2 (HJ _)))
  rw [fz_run_st j2 z]
theorem fw_law145 {L : Nat} {xs : Nat → Int32} {J : Int32 → Int32 → Int32 → Int32 → Int32 → Int32 → Int32 → Int32 → Int32 → Int32 → (Nat → Int32) → (Nat → Int32) → (Nat → Int32) → (Nat → Int32) → (Nat → Int32) → (Nat → Int32) → (Nat → Int32) → (Nat → Int32) → (Nat → Int32) → (Nat → Int32) → (Nat → Int32) → (Nat → Int32) → (Nat → Int32) → Int32 → Int32 → Int32 → Int32 → Int32 → Int32 → Int32 → Int32 → (Nat → Int32) → (Nat → Int32) → (Nat → Int32) → (Nat → Int32) → (Nat → Int32) → (Nat → Int32) → (Nat → Int32) → (Nat → Int32) → (Nat → Int32) → (Nat → Int32) → (Nat → Int32) → (Nat → Int32) → (Nat → Int32) → Prop} {kc ks n i : Nat} {x5 x6 x7 x8 z0 : Int32} {o a : Nat → Int32} {M : fz_M} {len_x hgt_x pc_x st_x cnt_x bc_x ce_x dn_x : Int32} {a1_x a2_x a3_x a4_x a5_x a6_x a7_x a8_x a9_x a10_x a11_x a12_x a13_x : Nat → Int32} {len_y hgt_y pc_y st_y cnt_y bc_y ce_y dn_y : Int32} {a1_y a2_y a3_y a4_y a5_y a6_y a7_y a8_y a9_y a10_y a11_y a12_y a13_y : Nat → Int32} (hL : L ≤ 260) (hi : i + 4 ≤ L) (hn : 1 ≤ n) (X : fz_X n o a M (len_x, hgt_x, pc_x, st_x, cnt_x, bc_x, ce_x, dn_x, a1_x, a2_x, a3_x, a4_x, a5_x, a6_x, a7_x, a8_x, a9_x, a10_x, a11_x, a12_x, a13_x)) (Y : fz_X n o a M (len_y, hgt_y, pc_y, st_y, cnt_y, bc_y, ce_y, dn_y, a1_y, a2_y, a3_y, a4_y, a5_y, a6_y, a7_y, a8_y, a9_y, a10_y, a11_y, a12_y, a13_y))
    (HJ : ∀ (n' : Nat) (o' a' : Nat → Int32) (M' : fz_M) (len_p hgt_p pc_p st_p cnt_p bc_p ce_p dn_p : Int32) (a1_p a2_p a3_p a4_p a5_p a6_p a7_p a8_p a9_p a10_p a11_p a12_p a13_p : Nat → Int32) (len_q hgt_q pc_q st_q cnt_q bc_q ce_q dn_q : Int32) (a1_q a2_q a3_q a4_q a5_q a6_q a7_q a8_q a9_q a10_q a11_q a12_q a13_q : Nat → Int32), 1 ≤ n' → fz_X n' o' a' M' (len_p, hgt_p, pc_p, st_p, cnt_p, bc_p, ce_p, dn_p, a1_p, a2_p, a3_p, a4_p, a5_p, a6_p, a7_p, a8_p, a9_p, a10_p, a11_p, a12_p, a13_p) → fz_X n' o' a' M' (len_q, hgt_q, pc_q, st_q, cnt_q, bc_q, ce_q, dn_q, a1_q, a2_q, a3_q, a4_q, a5_q, a6_q, a7_q, a8_q, a9_q, a10_q, a11_q, a12_q, a13_q) → J (nI n') (nI (i + 4)) len_p hgt_p pc_p st_p cnt_p bc_p ce_p dn_p a1_p a2_p a3_p a4_p a5_p a6_p a7_p a8_p a9_p a10_p a11_p a12_p a13_p len_q hgt_q pc_q st_q cnt_q bc_q ce_q dn_q a1_q a2_q a3_q a4_q a5_q a6_q a7_q a8_q a9_q a10_q a11_q a12_q a13_q) :
    wL_law_145 (fun r => r = 1) L xs J (nI n) (nI i) x5 x6 x7 x8 z0 kc ks len_x hgt_x pc_x st_x cnt_x bc_x ce_x dn_x a1_x a2_x a3_x a4_x a5_x a6_x a7_x a8_x a9_x a10_x a11_x a12_x a13_x len_y hgt_y pc_y st_y cnt_y bc_y ce_y dn_y a1_y a2_y a3_y a4_y a5_y a6_y a7_y a8_y a9_y a10_y a11_y a12_y a13_y := by
  have hn32 : n ≤ 32 := X.2.2.2.2.2.2.2.2.2.2.2.1.1
  unfold wL_law_145
  refine ⟨pk_in (i + 3) L (by omega) (nI_add i 3), ?_⟩
  obtain ⟨j, hj, ej⟩ := pk_andE ((xs ((nI i) + 3).toNatClampNeg) >>> ((2 : Int32) &&& 31)) (m := 7) 3 (by decide)
  refine nm_r ej (br_f (nI_pos (by omega)) (pk_lt 4 j (fun z => ?_) (fun z => ?_)))
  · obtain ⟨r, n', o', a', hr, _, hE⟩ := fw_emit n o a hn32 x8 z0
    refine hE _ M _ X (fun u X1 => ?_)
    obtain ⟨len_p, hgt_p, pc_p, st_p, cnt_p, bc_p, ce_p, dn_p, a1_p, a2_p, a3_p, a4_p, a5_p, a6_p, a7_p, a8_p, a9_p, a10_p, a11_p, a12_p, a13_p⟩ := u
    dsimp only
    refine hE _ M _ Y (fun v Y1 => ?_)
    obtain ⟨len_q, hgt_q, pc_q, st_q, cnt_q, bc_q, ce_q, dn_q, a1_q, a2_q, a3_q, a4_q, a5_q, a6_q, a7_q, a8_q, a9_q, a10_q, a11_q, a12_q, a13_q⟩ := v
    dsimp only
    refine br_t rfl ?_
    rcases hr with ⟨hr, rfl⟩ | ⟨rfl, rfl⟩
    · exact br_t (Int32.le_of_lt hr) (nm_r (nI_add i 4) (HJ _ _ _ _ _ _ _ _ _ _ _ _ _ _ _ _ _ _ _ _ _ _ _ _ _ _ _ _ _ _ _ _ _ _ _ _ _ _ _ _ _ _ _ _ _ _ hn X1 Y1))
    · exact br_f (nI_nle (by omega) (by omega)) (nm_r (nI_add i 4) (HJ _ _ _ _ _ _ _ _ _ _ _ _ _ _ _ _ _ _ _ _ _ _ _ _ _ _ _ _ _ _ _ _ _ _ _ _ _ _ _ _ _ _ _ _ _ _ (by omega) X1 Y1))
  refine pk_eq j 0 (fun z0' => ⟨nI_ne0 (by omega) (by omega), ?_⟩) (fun _ => pk_eq j 1 (fun _ => ?_) (fun _ => pk_eq j 2 (fun _ => br_c (fun _ => ?_) (fun _ => ?_)) (fun _ => pk_eq j 3 (fun _ => ?_) (fun _ => pk_eq j 4 (fun _ => ?_) (fun _ => trivial)))))
  · obtain ⟨o', a', hE⟩ := fw_patch n o a hn32 ((x7 &&& 255) - (x7 &&& 255) / nI n * nI n) x8 z0
    refine hE _ M _ X (fun _ u X1 => ?_)
    obtain ⟨len_p, hgt_p, pc_p, st_p, cnt_p, bc_p, ce_p, dn_p, a1_p, a2_p, a3_p, a4_p, a5_p, a6_p, a7_p, a8_p, a9_p, a10_p, a11_p, a12_p, a13_p⟩ := u
    refine ⟨nI_ne0 (by omega) (by omega), ?_⟩
    refine hE _ M _ Y (fun _ v Y1 => ?_)
    obtain ⟨len_q, hgt_q, pc_q, st_q, cnt_q, bc_q, ce_q, dn_q, a1_q, a2_q, a3_q, a4_q, a5_q, a6_q, a7_q, a8_q, a9_q, a10_q, a11_q, a12_q, a13_q⟩ := v
    exact nm_r (nI_add i 4) (HJ _ _ _ _ _ _ _ _ _ _ _ _ _ _ _ _ _ _ _ _ _ _ _ _ _ _ _ _ _ _ _ _ _ _ _ _ _ _ _ _ _ _ _ _ _ _ hn X1 Y1)
  · obtain ⟨j1, h1, e1⟩ := pk_andE x6 (m := 7) 3 (by decide)
    rw [e1]
    refine fw_poke (by omega) X (fun _ u X1 => ?_)
    obtain ⟨len_p, hgt_p, pc_p, st_p, cnt_p, bc_p, ce_p, dn_p, a1_p, a2_p, a3_p, a4_p, a5_p, a6_p, a7_p, a8_p, a9_p, a10_p, a11_p, a12_p, a13_p⟩ := u
    dsimp only
    refine fw_poke (by omega) Y (fun _ v Y1 => ?_)
    obtain ⟨len_q, hgt_q, pc_q, st_q, cnt_q, bc_q, ce_q, dn_q, a1_q, a2_q, a3_q, a4_q, a5_q, a6_q, a7_q, a8_q, a9_q, a10_q, a11_q, a12_q, a13_q⟩ := v
    exact nm_r (nI_add i 4) (HJ _ _ _ _ _ _ _ _ _ _ _ _ _ _ _ _ _ _ _ _ _ _ _ _ _ _ _ _ _ _ _ _ _ _ _ _ _ _ _ _ _ _ _ _ _ _ hn X1 Y1)
  · refine fw_start X (fun u X1 => ?_)
    obtain ⟨len_p, hgt_p, pc_p, st_p, cnt_p, bc_p, ce_p, dn_p, a1_p, a2_p, a3_p, a4_p, a5_p, a6_p, a7_p, a8_p, a9_p, a10_p, a11_p, a12_p, a13_p⟩ := u
    dsimp only
    refine fw_start Y (fun v Y1 => ?_)
    obtain ⟨len_q, hgt_q, pc_q, st_q, cnt_q, bc_q, ce_q, dn_q, a1_q, a2_q, a3_q, a4_q, a5_q, a6_q, a7_q, a8_q, a9_q, a10_q, a11_q, a12_q, a13_q⟩ := v
    exact nm_r (nI_add i 4) (HJ _ _ _ _ _ _ _ _ _ _ _ _ _ _ _ _ _ _ _ _ _ _ _ _ _ _ _ _ _ _ _ _ _ _ _ _ _ _ _ _ _ _ _ _ _ _ hn X1 Y1)
  · exact nm_r (nI_add i 4) (HJ _ _ _ _ _ _ _ _ _ _ _ _ _ _ _ _ _ _ _ _ _ _ _ _ _ _ _ _ _ _ _ _ _ _ _ _ _ _ _ _ _ _ _ _ _ _ hn X Y)
  · refine fw_law272 X Y ?_
    intro M' len_p hgt_p pc_p st_p cnt_p bc_p ce_p dn_p a1_p a2_p a3_p a4_p a5_p a6_p a7_p a8_p a9_p a10_p a11_p a12_p a13_p len_q hgt_q pc_q st_q cnt_q bc_q ce_q dn_q a1_q a2_q a3_q a4_q a5_q a6_q a7_q a8_q a9_q a10_q a11_q a12_q a13_q X1 Y1
    exact HJ _ _ _ _ _ _ _ _ _ _ _ _ _ _ _ _ _ _ _ _ _ _ _ _ _ _ _ _ _ _ _ _ _ _ _ _ _ _ _ _ _ _ _ _ _ _ hn X1 Y1
  · refine fw_law272 X Y ?_
    intro M' len_p hgt_p pc_p st_p cnt_p bc_p ce_p dn_p a1_p a2_p a3_p a4_p a5_p a6_p a7_p a8_p a9_p a10_p a11_p a12_p a13_p len_q hgt_q pc_q st_q cnt_q bc_q ce_q dn_q a1_q a2_q a3_q a4_q a5_q a6_q a7_q a8_q a9_q a10_q a11_q a12_q a13_q X1 Y1
    exact HJ _ _ _ _ _ _ _ _ _ _ _ _ _ _ _ _ _ _ _ _ _ _ _ _ _ _ _ _ _ _ _ _ _ _ _ _ _ _ _ _ _ _ _ _ _ _ hn X1 Y1
theorem fw_law394 {L : Nat} {xs : Nat → Int32} {kc ks n : Nat} {o a : Nat → Int32} {M : fz_M} {len_x hgt_x pc_x st_x cnt_x bc_x ce_x dn_x : Int32} {a1_x a2_x a3_x a4_x a5_x a6_x a7_x a8_x a9_x a10_x a11_x a12_x a13_x : Nat → Int32} (X : fz_X n o a (fz_run n o a 150 M) (len_x, hgt_x, pc_x, st_x, cnt_x, bc_x, ce_x, dn_x, a1_x, a2_x, a3_x, a4_x, a5_x, a6_x, a7_x, a8_x, a9_x, a10_x, a11_x, a12_x, a13_x)) :
    ∀ (fu i : Nat) (len_y hgt_y pc_y st_y cnt_y bc_y ce_y dn_y : Int32) (a1_y a2_y a3_y a4_y a5_y a6_y a7_y a8_y a9_y a10_y a11_y a12_y a13_y : Nat → Int32), i ≤ 50 → 50 - i < fu → fz_X n o a (fz_run n o a (3 * i) M) (len_y, hgt_y, pc_y, st_y, cnt_y, bc_y, ce_y, dn_y, a1_y, a2_y, a3_y, a4_y, a5_y, a6_y, a7_y, a8_y, a9_y, a10_y, a11_y, a12_y, a13_y) → wL_law_394 (fun r => r = 1) L xs kc ks fu (nI i) len_x hgt_x pc_x st_x cnt_x bc_x ce_x dn_x a1_x a2_x a3_x a4_x a5_x a6_x a7_x a8_x a9_x a10_x a11_x a12_x a13_x len_y hgt_y pc_y st_y cnt_y bc_y ce_y dn_y a1_y a2_y a3_y a4_y a5_y a6_y a7_y a8_y a9_y a10_y a11_y a12_y a13_y := by
  intro fu
  induction fu with
  | zero =>
    intro i len_y hgt_y pc_y st_y cnt_y bc_y ce_y dn_y a1_y a2_y a3_y a4_y a5_y a6_y a7_y a8_y a9_y a10_y a11_y a12_y a13_y h1 h2
    omega
  | succ fu ih =>
    intro i len_y hgt_y pc_y st_y cnt_y bc_y ce_y dn_y a1_y a2_y a3_y a4_y a5_y a6_y a7_y a8_y a9_y a10_y a11_y a12_y a13_y h1 h2 Y
    refine pk_le 50 i (fun z => ?_) (fun z => ?_)
    · obtain rfl : i = 50 := by omega
      refine fw_same X Y ?_
      intro len_p hgt_p pc_p st_p cnt_p bc_p ce_p dn_p a1_p a2_p a3_p a4_p a5_p a6_p a7_p a8_p a9_p a10_p a11_p a12_p a13_p len_q hgt_q pc_q st_q cnt_q bc_q ce_q dn_q a1_q a2_q a3_q a4_q a5_q a6_q a7_q a8_q a9_q a10_q a11_q a12_q a13_q _ _
      rfl
    · refine fw_run (k := 3) (by omega) Y (fun v Y1 => ?_)
      obtain ⟨len_q, hgt_q, pc_q, st_q, cnt_q, bc_q, ce_q, dn_q, a1_q, a2_q, a3_q, a4_q, a5_q, a6_q, a7_q, a8_q, a9_q, a10_q, a11_q, a12_q, a13_q⟩ := v
      rw [← fz_run_add] at Y1
      exact nm_r (nI_1 i) (ih (i + 1) _ _ _ _ _ _ _ _ _ _ _ _ _ _ _ _ _ _ _ _ _ (by omega) (by omega) Y1)
theorem fw_law109 {L : Nat} {xs : Nat → Int32} {J : Int32 → Int32 → Int32 → Int32 → Int32 → Int32 → Int32 → Int32 → Int32 → Int32 → (Nat → Int32) → (Nat → Int32) → (Nat → Int32) → (Nat → Int32) → (Nat → Int32) → (Nat → Int32) → (Nat → Int32) → (Nat → Int32) → (Nat → Int32) → (Nat → Int32) → (Nat → Int32) → (Nat → Int32) → (Nat → Int32) → Int32 → Int32 → Int32 → Int32 → Int32 → Int32 → Int32 → Int32 → (Nat → Int32) → (Nat → Int32) → (Nat → Int32) → (Nat → Int32) → (Nat → Int32) → (Nat → Int32) → (Nat → Int32) → (Nat → Int32) → (Nat → Int32) → (Nat → Int32) → (Nat → Int32) → (Nat → Int32) → (Nat → Int32) → Prop} {kc ks n i : Nat} {x5 x6 x7 z0 : Int32} {o a : Nat → Int32} {M : fz_M} {len_x hgt_x pc_x st_x cnt_x bc_x ce_x dn_x : Int32} {a1_x a2_x a3_x a4_x a5_x a6_x a7_x a8_x a9_x a10_x a11_x a12_x a13_x : Nat → Int32} {len_y hgt_y pc_y st_y cnt_y bc_y ce_y dn_y : Int32} {a1_y a2_y a3_y a4_y a5_y a6_y a7_y a8_y a9_y a10_y a11_y a12_y a13_y : Nat → Int32} (hL : L ≤ 260) (hi : i + 4 ≤ L) (hn : 1 ≤ n) (X : fz_X n o a M (len_x, hgt_x, pc_x, st_x, cnt_x, bc_x, ce_x, dn_x, a1_x, a2_x, a3_x, a4_x, a5_x, a6_x, a7_x, a8_x, a9_x, a10_x, a11_x, a12_x, a13_x)) (Y : fz_X n o a M (len_y, hgt_y, pc_y, st_y, cnt_y, bc_y, ce_y, dn_y, a1_y, a2_y, a3_y, a4_y, a5_y, a6_y, a7_y, a8_y, a9_y, a10_y, a11_y, a12_y, a13_y))
    (HJ : ∀ (n' : Nat) (o' a' : Nat → Int32) (M' : fz_M) (len_p hgt_p pc_p st_p cnt_p bc_p ce_p dn_p : Int32) (a1_p a2_p a3_p a4_p a5_p a6_p a7_p a8_p a9_p a10_p a11_p a12_p a13_p : Nat → Int32) (len_q hgt_q pc_q st_q cnt_q bc_q ce_q dn_q : Int32) (a1_q a2_q a3_q a4_q a5_q a6_q a7_q a8_q a9_q a10_q a11_q a12_q a13_q : Nat → Int32), 1 ≤ n' → fz_X n' o' a' M' (len_p, hgt_p, pc_p, st_p, cnt_p, bc_p, ce_p, dn_p, a1_p, a2_p, a3_p, a4_p, a5_p, a6_p, a7_p, a8_p, a9_p, a10_p, a11_p, a12_p, a13_p) → fz_X n' o' a' M' (len_q, hgt_q, pc_q, st_q, cnt_q, bc_q, ce_q, dn_q, a1_q, a2_q, a3_q, a4_q, a5_q, a6_q, a7_q, a8_q, a9_q, a10_q, a11_q, a12_q, a13_q) → J (nI n') (nI (i + 4)) len_p hgt_p pc_p st_p cnt_p bc_p ce_p dn_p a1_p a2_p a3_p a4_p a5_p a6_p a7_p a8_p a9_p a10_p a11_p a12_p a13_p len_q hgt_q pc_q st_q cnt_q bc_q ce_q dn_q a1_q a2_q a3_q a4_q a5_q a6_q a7_q a8_q a9_q a10_q a11_q a12_q a13_q) :
    wL_law_109 (fun r => r = 1) L xs J (nI n) (nI i) x5 x6 x7 z0 kc ks len_x hgt_x pc_x st_x cnt_x bc_x ce_x dn_x a1_x a2_x a3_x a4_x a5_x a6_x a7_x a8_x a9_x a10_x a11_x a12_x a13_x len_y hgt_y pc_y st_y cnt_y bc_y ce_y dn_y a1_y a2_y a3_y a4_y a5_y a6_y a7_y a8_y a9_y a10_y a11_y a12_y a13_y := by
  have hn32 : n ≤ 32 := X.2.2.2.2.2.2.2.2.2.2.2.1.1
  unfold wL_law_109
  refine br_c (fun _ => fw_law145 hL hi hn X Y HJ) (fun _ => br_c (fun _ => ⟨?_, fw_law145 hL hi hn X Y HJ⟩) (fun _ => fw_law145 hL hi hn X Y HJ))
  rw [nI_1]
  exact nI_ne0 (by omega) (by omega)
theorem fw_law59 {L : Nat} {xs : Nat → Int32} {kc ks : Nat} (hL : L ≤ 260) :
    ∀ (fu i n : Nat) (o a : Nat → Int32) (M : fz_M) (len_x hgt_x pc_x st_x cnt_x bc_x ce_x dn_x : Int32) (a1_x a2_x a3_x a4_x a5_x a6_x a7_x a8_x a9_x a10_x a11_x a12_x a13_x : Nat → Int32) (len_y hgt_y pc_y st_y cnt_y bc_y ce_y dn_y : Int32) (a1_y a2_y a3_y a4_y a5_y a6_y a7_y a8_y a9_y a10_y a11_y a12_y a13_y : Nat → Int32), i ≤ L → L - i < fu → 1 ≤ n → fz_X n o a M (len_x, hgt_x, pc_x, st_x, cnt_x, bc_x, ce_x, dn_x, a1_x, a2_x, a3_x, a4_x, a5_x, a6_x, a7_x, a8_x, a9_x, a10_x, a11_x, a12_x, a13_x) → fz_X n o a M (len_y, hgt_y, pc_y, st_y, cnt_y, bc_y, ce_y, dn_y, a1_y, a2_y, a3_y, a4_y, a5_y, a6_y, a7_y, a8_y, a9_y, a10_y, a11_y, a12_y, a13_y) → wL_law_59 (fun r => r = 1) L xs kc ks fu (nI n) (nI i) len_x hgt_x pc_x st_x cnt_x bc_x ce_x dn_x a1_x a2_x a3_x a4_x a5_x a6_x a7_x a8_x a9_x a10_x a11_x a12_x a13_x len_y hgt_y pc_y st_y cnt_y bc_y ce_y dn_y a1_y a2_y a3_y a4_y a5_y a6_y a7_y a8_y a9_y a10_y a11_y a12_y a13_y := by
  intro fu
  induction fu with
  | zero =>
    intro i n o a M len_x hgt_x pc_x st_x cnt_x bc_x ce_x dn_x a1_x a2_x a3_x a4_x a5_x a6_x a7_x a8_x a9_x a10_x a11_x a12_x a13_x len_y hgt_y pc_y st_y cnt_y bc_y ce_y dn_y a1_y a2_y a3_y a4_y a5_y a6_y a7_y a8_y a9_y a10_y a11_y a12_y a13_y h1 h2
    omega
  | succ fu ih =>
    intro i n o a M len_x hgt_x pc_x st_x cnt_x bc_x ce_x dn_x a1_x a2_x a3_x a4_x a5_x a6_x a7_x a8_x a9_x a10_x a11_x a12_x a13_x len_y hgt_y pc_y st_y cnt_y bc_y ce_y dn_y a1_y a2_y a3_y a4_y a5_y a6_y a7_y a8_y a9_y a10_y a11_y a12_y a13_y h1 h2 hn X Y
    by_cases hc : i + 4 ≤ L
    · have e4 : Int32.ofNat L - 4 = nI (L - 4) := pk_sub (a := L) (b := 4) (by omega)
      refine br_f (by rw [e4]; exact nI_nlt (by omega) (by omega)) ⟨pk_in i L (by omega), nm_e ⟨pk_in (i + 1) L (by omega) (nI_1 i), nm_e ⟨pk_in (i + 2) L (by omega) (nI_add i 2), nm_e ?_⟩⟩⟩
      have HJ : ∀ (n' : Nat) (o' a' : Nat → Int32) (M' : fz_M) (len_p hgt_p pc_p st_p cnt_p bc_p ce_p dn_p : Int32) (a1_p a2_p a3_p a4_p a5_p a6_p a7_p a8_p a9_p a10_p a11_p a12_p a13_p : Nat → Int32) (len_q hgt_q pc_q st_q cnt_q bc_q ce_q dn_q : Int32) (a1_q a2_q a3_q a4_q a5_q a6_q a7_q a8_q a9_q a10_q a11_q a12_q a13_q : Nat → Int32), 1 ≤ n' → fz_X n' o' a' M' (len_p, hgt_p, pc_p, st_p, cnt_p, bc_p, ce_p, dn_p, a1_p, a2_p, a3_p, a4_p, a5_p, a6_p, a7_p, a8_p, a9_p, a10_p, a11_p, a12_p, a13_p) → fz_X n' o' a' M' (len_q, hgt_q, pc_q, st_q, cnt_q, bc_q, ce_q, dn_q, a1_q, a2_q, a3_q, a4_q, a5_q, a6_q, a7_q, a8_q, a9_q, a10_q, a11_q, a12_q, a13_q) → wL_law_59 (fun r => r = 1) L xs kc ks fu (nI n') (nI (i + 4)) len_p hgt_p pc_p st_p cnt_p bc_p ce_p dn_p a1_p a2_p a3_p a4_p a5_p a6_p a7_p a8_p a9_p a10_p a11_p a12_p a13_p len_q hgt_q pc_q st_q cnt_q bc_q ce_q dn_q a1_q a2_q a3_q a4_q a5_q a6_q a7_q a8_q a9_q a10_q a11_q a12_q a13_q := by
        intro n' o' a' M' len_p hgt_p pc_p st_p cnt_p bc_p ce_p dn_p a1_p a2_p a3_p a4_p a5_p a6_p a7_p a8_p a9_p a10_p a11_p a12_p a13_p len_q hgt_q pc_q st_q cnt_q bc_q ce_q dn_q a1_q a2_q a3_q a4_q a5_q a6_q a7_q a8_q a9_q a10_q a11_q a12_q a13_q hn' X' Y'
        exact ih (i + 4) n' o' a' M' _ _ _ _ _ _ _ _ _ _ _ _ _ _ _ _ _ _ _ _ _ _ _ _ _ _ _ _ _ _ _ _ _ _ _ _ _ _ _ _ _ _ hc (by omega) hn' X' Y'
      exact br_c (fun _ => fw_law109 hL hc hn X Y HJ) (fun _ => fw_law109 hL hc hn X Y HJ)
    · have lt : Int32.ofNat L - 4 < nI i := by
        by_cases h4 : 4 ≤ L
        · have e4 : Int32.ofNat L - 4 = nI (L - 4) := pk_sub (a := L) (b := 4) h4
          rw [e4]
          exact nI_lt (by omega) (by omega)
        · have hs : nI L - nI 4 < 0 := pk_sneg (by omega) (by omega)
          have h0 : (0 : Int32) ≤ nI i := nI_pos' (by omega)
          exact Int32.lt_of_lt_of_le hs h0
      refine br_t lt ?_
      refine fw_start X (fun u X1 => ?_)
      obtain ⟨len_p, hgt_p, pc_p, st_p, cnt_p, bc_p, ce_p, dn_p, a1_p, a2_p, a3_p, a4_p, a5_p, a6_p, a7_p, a8_p, a9_p, a10_p, a11_p, a12_p, a13_p⟩ := u
      dsimp only
      refine fw_start Y (fun v Y1 => ?_)
      obtain ⟨len_q, hgt_q, pc_q, st_q, cnt_q, bc_q, ce_q, dn_q, a1_q, a2_q, a3_q, a4_q, a5_q, a6_q, a7_q, a8_q, a9_q, a10_q, a11_q, a12_q, a13_q⟩ := v
      dsimp only
      refine fw_run (k := 150) (by omega) X1 (fun w X2 => ?_)
      obtain ⟨len_r, hgt_r, pc_r, st_r, cnt_r, bc_r, ce_r, dn_r, a1_r, a2_r, a3_r, a4_r, a5_r, a6_r, a7_r, a8_r, a9_r, a10_r, a11_r, a12_r, a13_r⟩ := w
      exact ⟨51, fw_law394 X2 51 0 _ _ _ _ _ _ _ _ _ _ _ _ _ _ _ _ _ _ _ _ _ (by omega) (by omega) Y1⟩
theorem fw_law21 {L : Nat} {xs : Nat → Int32} {kc ks : Nat} (hL : L ≤ 260) :
    ∀ (fu i : Nat) (o a : Nat → Int32) (M : fz_M) (len_x hgt_x pc_x st_x cnt_x bc_x ce_x dn_x : Int32) (a1_x a2_x a3_x a4_x a5_x a6_x a7_x a8_x a9_x a10_x a11_x a12_x a13_x : Nat → Int32) (len_y hgt_y pc_y st_y cnt_y bc_y ce_y dn_y : Int32) (a1_y a2_y a3_y a4_y a5_y a6_y a7_y a8_y a9_y a10_y a11_y a12_y a13_y : Nat → Int32), i ≤ 3 → 3 - i < fu → fz_X i o a M (len_x, hgt_x, pc_x, st_x, cnt_x, bc_x, ce_x, dn_x, a1_x, a2_x, a3_x, a4_x, a5_x, a6_x, a7_x, a8_x, a9_x, a10_x, a11_x, a12_x, a13_x) → fz_X i o a M (len_y, hgt_y, pc_y, st_y, cnt_y, bc_y, ce_y, dn_y, a1_y, a2_y, a3_y, a4_y, a5_y, a6_y, a7_y, a8_y, a9_y, a10_y, a11_y, a12_y, a13_y) → wL_law_21 (fun r => r = 1) L xs kc ks fu (nI i) (nI i) len_x hgt_x pc_x st_x cnt_x bc_x ce_x dn_x a1_x a2_x a3_x a4_x a5_x a6_x a7_x a8_x a9_x a10_x a11_x a12_x a13_x len_y hgt_y pc_y st_y cnt_y bc_y ce_y dn_y a1_y a2_y a3_y a4_y a5_y a6_y a7_y a8_y a9_y a10_y a11_y a12_y a13_y := by
  intro fu
  induction fu with
  | zero =>
    intro i o a M len_x hgt_x pc_x st_x cnt_x bc_x ce_x dn_x a1_x a2_x a3_x a4_x a5_x a6_x a7_x a8_x a9_x a10_x a11_x a12_x a13_x len_y hgt_y pc_y st_y cnt_y bc_y ce_y dn_y a1_y a2_y a3_y a4_y a5_y a6_y a7_y a8_y a9_y a10_y a11_y a12_y a13_y h1 h2
    omega
  | succ fu ih =>
    intro i o a M len_x hgt_x pc_x st_x cnt_x bc_x ce_x dn_x a1_x a2_x a3_x a4_x a5_x a6_x a7_x a8_x a9_x a10_x a11_x a12_x a13_x len_y hgt_y pc_y st_y cnt_y bc_y ce_y dn_y a1_y a2_y a3_y a4_y a5_y a6_y a7_y a8_y a9_y a10_y a11_y a12_y a13_y h1 h2 X Y
    refine pk_le 3 i (fun z => ?_) (fun z => ?_)
    · exact ⟨L + 1, fw_law59 hL (L + 1) 0 i o a M _ _ _ _ _ _ _ _ _ _ _ _ _ _ _ _ _ _ _ _ _ _ _ _ _ _ _ _ _ _ _ _ _ _ _ _ _ _ _ _ _ _ (by omega) (by omega) (by omega) X Y⟩
    · obtain ⟨r, n', o', a', hr, hs, hE⟩ := fw_emit i o a (by omega) 0 (nI i + 2)
      obtain rfl : n' = i + 1 := hs rfl (by omega)
      refine hE _ M _ X (fun u X1 => ?_)
      obtain ⟨len_p, hgt_p, pc_p, st_p, cnt_p, bc_p, ce_p, dn_p, a1_p, a2_p, a3_p, a4_p, a5_p, a6_p, a7_p, a8_p, a9_p, a10_p, a11_p, a12_p, a13_p⟩ := u
      dsimp only
      refine hE _ M _ Y (fun v Y1 => ?_)
      obtain ⟨len_q, hgt_q, pc_q, st_q, cnt_q, bc_q, ce_q, dn_q, a1_q, a2_q, a3_q, a4_q, a5_q, a6_q, a7_q, a8_q, a9_q, a10_q, a11_q, a12_q, a13_q⟩ := v
      exact nm_r (nI_1 i) (nm_r (nI_1 i) (ih (i + 1) o' a' M _ _ _ _ _ _ _ _ _ _ _ _ _ _ _ _ _ _ _ _ _ _ _ _ _ _ _ _ _ _ _ _ _ _ _ _ _ _ _ _ _ _ (by omega) (by omega) X1 Y1))
end
section
theorem i_vc (xs : Nat → Int32) (L : Nat) (hL : L ≤ 260) : wpL_law (fun r => r = 1) L xs := by
  refine ⟨13, 3091, by decide, by decide, ?_⟩
  refine fw_init (fun u X => ?_)
  obtain ⟨len_x, hgt_x, pc_x, st_x, cnt_x, bc_x, ce_x, dn_x, a1_x, a2_x, a3_x, a4_x, a5_x, a6_x, a7_x, a8_x, a9_x, a10_x, a11_x, a12_x, a13_x⟩ := u
  refine ⟨by decide, by decide, 13, 3091, by decide, by decide, ?_⟩
  refine fw_init (fun v Y => ?_)
  obtain ⟨len_y, hgt_y, pc_y, st_y, cnt_y, bc_y, ce_y, dn_y, a1_y, a2_y, a3_y, a4_y, a5_y, a6_y, a7_y, a8_y, a9_y, a10_y, a11_y, a12_y, a13_y⟩ := v
  exact ⟨4, fw_law21 hL 4 0 _ _ _ _ _ _ _ _ _ _ _ _ _ _ _ _ _ _ _ _ _ _ _ _ _ _ _ _ _ _ _ _ _ _ _ _ _ _ _ _ _ _ _ _ _ (by omega) (by omega) X Y⟩
end
