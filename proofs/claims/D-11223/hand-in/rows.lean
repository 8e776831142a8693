section
/-! The walk: for each method a Bool of the same shape as its printed predicate (a continuation k for the post), and that it is enough. -/
def sw_in (i : Int32) (n : Nat) : Bool := decide (0 ≤ i.toInt) && decide (i.toInt < (n : Int))
theorem sw_and {i : Int32} {n : Nat} {A : Bool} {P : Prop} (h : (sw_in i n && A) = true) (hA : A = true → P) : vp_in i n ∧ P := by
  rw [Bool.and_eq_true] at h
  have h1 := h.1
  unfold sw_in at h1
  rw [Bool.and_eq_true, decide_eq_true_eq, decide_eq_true_eq] at h1
  exact ⟨vp_in_iff.mpr h1, hA h.2⟩
theorem sw_br {c : Prop} [Decidable c] {A B : Bool} {P Q : Prop} (h : (if c then A else B) = true) (hA : A = true → P) (hB : B = true → Q) : (c → P) ∧ (¬ c → Q) :=
  ⟨fun hc => hA (by rw [if_pos hc] at h; exact h), fun hc => hB (by rw [if_neg hc] at h; exact h)⟩

def sw_letA (k : Int32 → Bool) (a1 : Nat → Int32) (p0 p1 : Int32) : Bool :=
  if p0 = 1 then (if (p1 &&& 1) = 0 then k 9 else (sw_in (p1 >>> ((1 : Int32) &&& 31)) 10 && k (a1 (p1 >>> ((1 : Int32) &&& 31)).toNatClampNeg))) else (sw_in p1 10 && k (a1 p1.toNatClampNeg))
theorem sw_letA_ok {k : Int32 → Bool} {post : Int32 → Prop} {m n : Int32} {a1 a2 a3 a4 a5 a6 : Nat → Int32} {p0 p1 : Int32} (h : sw_letA k a1 p0 p1 = true) (hk : ∀ r, k r = true → post r) : wpX_letterA post (m, n, a1, a2, a3, a4, a5, a6) p0 p1 :=
  sw_br h (fun h => sw_br h (fun h => hk _ h) (fun h => sw_and h (fun h => hk _ h))) (fun h => sw_and h (fun h => hk _ h))

def sw_letB (k : Int32 → Bool) (n : Int32) (a2 : Nat → Int32) (p0 p1 : Int32) : Bool :=
  if p0 = 0 then (sw_in p1 14 && k (a2 p1.toNatClampNeg)) else (if p0 = 1 then (if (p1 &&& 1) = 0 then k 9 else (sw_in (p1 >>> ((1 : Int32) &&& 31)) 14 && k (a2 (p1 >>> ((1 : Int32) &&& 31)).toNatClampNeg))) else (if n ≤ p1 then (sw_in (p1 - n) 14 && k (a2 (p1 - n).toNatClampNeg)) else (sw_in p1 14 && k (a2 p1.toNatClampNeg))))
theorem sw_letB_ok {k : Int32 → Bool} {post : Int32 → Prop} {m n : Int32} {a1 a2 a3 a4 a5 a6 : Nat → Int32} {p0 p1 : Int32} (h : sw_letB k n a2 p0 p1 = true) (hk : ∀ r, k r = true → post r) : wpX_letterB post (m, n, a1, a2, a3, a4, a5, a6) p0 p1 :=
  sw_br h (fun h => sw_and h (fun h => hk _ h)) (fun h => sw_br h (fun h => sw_br h (fun h => hk _ h) (fun h => sw_and h (fun h => hk _ h))) (fun h => sw_br h (fun h => sw_and h (fun h => hk _ h)) (fun h => sw_and h (fun h => hk _ h))))

def sw_swap (k : (Nat → Int32) → (Nat → Int32) → Bool) (x1 x2 x3 x4 x5 : Int32) (a5 a6 : Nat → Int32) : Bool :=
  sw_in ((x1 * 20) + x2) 60 && (sw_in ((x1 * 28) + x3) 84 && k (upd a5 ((x1 * 20) + x2).toNatClampNeg x5) (upd a6 ((x1 * 28) + x3).toNatClampNeg x4))
theorem sw_swap_ok {k : (Nat → Int32) → (Nat → Int32) → Bool} {post : St2 → Prop} {x1 x2 x3 x4 x5 m n : Int32} {a1 a2 a3 a4 a5 a6 : Nat → Int32} (h : sw_swap k x1 x2 x3 x4 x5 a5 a6 = true) (hk : ∀ b5 b6, k b5 b6 = true → post (m, n, a1, a2, a3, a4, b5, b6)) : wX_cell_56 post x1 x2 x3 x4 x5 m n a1 a2 a3 a4 a5 a6 :=
  sw_and h (fun h => nm_e (sw_and h (fun h => nm_e (hk _ _ h))))

def sw_cell (k : (Nat → Int32) → (Nat → Int32) → Bool) (n : Int32) (a1 a2 a5 a6 : Nat → Int32) (p0 p1 p2 : Int32) : Bool :=
  sw_in ((p0 * 20) + p1) 60 && (sw_in ((p0 * 28) + p2) 84 && sw_letA (fun r => sw_letB (fun s => if r = s then sw_swap k p0 p1 p2 (a5 ((p0 * 20) + p1).toNatClampNeg) (a6 ((p0 * 28) + p2).toNatClampNeg) a5 a6 else (if a5 ((p0 * 20) + p1).toNatClampNeg ≤ a6 ((p0 * 28) + p2).toNatClampNeg then k a5 a6 else sw_swap k p0 p1 p2 (a5 ((p0 * 20) + p1).toNatClampNeg) (a6 ((p0 * 28) + p2).toNatClampNeg) a5 a6)) n a2 p0 p2) a1 p0 p1)
theorem sw_cell_ok {k : (Nat → Int32) → (Nat → Int32) → Bool} {post : St2 → Prop} {m n : Int32} {a1 a2 a3 a4 a5 a6 : Nat → Int32} {p0 p1 p2 : Int32} (h : sw_cell k n a1 a2 a5 a6 p0 p1 p2 = true) (hk : ∀ b5 b6, k b5 b6 = true → post (m, n, a1, a2, a3, a4, b5, b6)) : wpX_cell post (m, n, a1, a2, a3, a4, a5, a6) p0 p1 p2 :=
  sw_and h (fun h => nm_e (sw_and h (fun h => nm_e (sw_letA_ok h (fun r h => sw_letB_ok h (fun s h => sw_br h (fun h => sw_swap_ok h hk) (fun h => sw_br h (fun h => hk _ _ h) (fun h => sw_swap_ok h hk))))))))

def sw_rowL (k : (Nat → Int32) → (Nat → Int32) → Bool) (n : Int32) (a1 a2 a4 : Nat → Int32) (x1 x2 : Int32) : Nat → Int32 → (Nat → Int32) → (Nat → Int32) → Bool
  | 0 => fun _ _ _ => false
  | f + 1 => fun x3 a5 a6 => sw_in x1 3 && (if a4 x1.toNatClampNeg ≤ x3 then k a5 a6 else sw_cell (fun b5 b6 => sw_rowL k n a1 a2 a4 x1 x2 f (x3 + 1) b5 b6) n a1 a2 a5 a6 x1 x2 x3)
theorem sw_rowL_ok {k : (Nat → Int32) → (Nat → Int32) → Bool} {post : St2 → Prop} {m n : Int32} {a1 a2 a3 a4 : Nat → Int32} {x1 x2 : Int32} (hk : ∀ b5 b6, k b5 b6 = true → post (m, n, a1, a2, a3, a4, b5, b6)) : ∀ (f : Nat) (x3 : Int32) (a5 a6 : Nat → Int32), sw_rowL k n a1 a2 a4 x1 x2 f x3 a5 a6 = true → wX_addRow_32 post x1 x2 f x3 m n a1 a2 a3 a4 a5 a6
  | 0, _, _, _, h => absurd h Bool.false_ne_true
  | f + 1, x3, a5, a6, h => sw_and h (fun h => sw_br h (fun h => hk _ _ h) (fun h => sw_cell_ok h (fun b5 b6 h => nm_e (sw_rowL_ok hk f (x3 + 1) b5 b6 h))))

def sw_row (k : (Nat → Int32) → (Nat → Int32) → (Nat → Int32) → Bool) (n : Int32) (a1 a2 a3 a4 a5 a6 : Nat → Int32) (p0 : Int32) : Bool :=
  sw_in p0 3 && (sw_in ((p0 * 20) + a3 p0.toNatClampNeg) 60 && (sw_in p0 3 && sw_rowL (k (upd a3 p0.toNatClampNeg (a3 p0.toNatClampNeg + 1))) n a1 a2 a4 p0 (a3 p0.toNatClampNeg) 8 0 (upd a5 ((p0 * 20) + a3 p0.toNatClampNeg).toNatClampNeg ((-1) - a3 p0.toNatClampNeg)) a6))
theorem sw_row_ok {k : (Nat → Int32) → (Nat → Int32) → (Nat → Int32) → Bool} {post : St2 → Prop} {m n : Int32} {a1 a2 a3 a4 a5 a6 : Nat → Int32} {p0 : Int32} (h : sw_row k n a1 a2 a3 a4 a5 a6 p0 = true) (hk : ∀ b3 b5 b6, k b3 b5 b6 = true → post (m, n, a1, a2, b3, a4, b5, b6)) : wpX_addRow post (m, n, a1, a2, a3, a4, a5, a6) p0 :=
  sw_and h (fun h => nm_e (sw_and h (fun h => nm_e (sw_and h (fun h => nm_e ⟨8, sw_rowL_ok (hk _) 8 0 _ _ h⟩)))))

def sw_colL (k : (Nat → Int32) → (Nat → Int32) → Bool) (n : Int32) (a1 a2 a3 : Nat → Int32) (x1 x2 : Int32) : Nat → Int32 → (Nat → Int32) → (Nat → Int32) → Bool
  | 0 => fun _ _ _ => false
  | f + 1 => fun x3 a5 a6 => sw_in x1 3 && (if a3 x1.toNatClampNeg ≤ x3 then k a5 a6 else sw_cell (fun b5 b6 => sw_colL k n a1 a2 a3 x1 x2 f (x3 + 1) b5 b6) n a1 a2 a5 a6 x1 x3 x2)
theorem sw_colL_ok {k : (Nat → Int32) → (Nat → Int32) → Bool} {post : St2 → Prop} {m n : Int32} {a1 a2 a3 a4 : Nat → Int32} {x1 x2 : Int32} (hk : ∀ b5 b6, k b5 b6 = true → post (m, n, a1, a2, a3, a4, b5, b6)) : ∀ (f : Nat) (x3 : Int32) (a5 a6 : Nat → Int32), sw_colL k n a1 a2 a3 x1 x2 f x3 a5 a6 = true → wX_addColumn_30 post x1 x2 f x3 m n a1 a2 a3 a4 a5 a6
  | 0, _, _, _, h => absurd h Bool.false_ne_true
  | f + 1, x3, a5, a6, h => sw_and h (fun h => sw_br h (fun h => hk _ _ h) (fun h => sw_cell_ok h (fun b5 b6 h => nm_e (sw_colL_ok hk f (x3 + 1) b5 b6 h))))

def sw_col (k : (Nat → Int32) → (Nat → Int32) → (Nat → Int32) → Bool) (n : Int32) (a1 a2 a3 a4 a5 a6 : Nat → Int32) (p0 : Int32) : Bool :=
  sw_in p0 3 && (sw_in ((p0 * 28) + a4 p0.toNatClampNeg) 84 && (sw_in p0 3 && sw_colL (k (upd a4 p0.toNatClampNeg (a4 p0.toNatClampNeg + 1))) n a1 a2 a3 p0 (a4 p0.toNatClampNeg) 8 0 a5 (upd a6 ((p0 * 28) + a4 p0.toNatClampNeg).toNatClampNeg (a4 p0.toNatClampNeg))))
theorem sw_col_ok {k : (Nat → Int32) → (Nat → Int32) → (Nat → Int32) → Bool} {post : St2 → Prop} {m n : Int32} {a1 a2 a3 a4 a5 a6 : Nat → Int32} {p0 : Int32} (h : sw_col k n a1 a2 a3 a4 a5 a6 p0 = true) (hk : ∀ b4 b5 b6, k b4 b5 b6 = true → post (m, n, a1, a2, a3, b4, b5, b6)) : wpX_addColumn post (m, n, a1, a2, a3, a4, a5, a6) p0 :=
  sw_and h (fun h => nm_e (sw_and h (fun h => nm_e (sw_and h (fun h => nm_e ⟨8, sw_colL_ok (hk _) 8 0 _ _ h⟩)))))

/-! the two that grow: on a bad letter nothing changes -/
def sw_bad (c : Int32) : Prop := c < 0 ∨ ¬ c ≤ 3
theorem sw_badL {post : Int32 → Prop} {u : St2} {c : Int32} (hc : sw_bad c) (h : post 1) : wpX_badLetter post u c := by
  obtain ⟨m, n, a1, a2, a3, a4, a5, a6⟩ := u
  exact br_c (fun _ => h) (fun z => br_f (hc.resolve_left z) h)
theorem sw_okL {post : Int32 → Prop} {u : St2} {c : Int32} (hc : ¬ sw_bad c) (h : post 0) : wpX_badLetter post u c := by
  obtain ⟨m, n, a1, a2, a3, a4, a5, a6⟩ := u
  exact br_f (fun z => hc (Or.inl z)) (br_c (fun _ => h) (fun z => absurd (Or.inr z) hc))
def sw_grA (k : Int32 → (Nat → Int32) → (Nat → Int32) → (Nat → Int32) → (Nat → Int32) → Bool) (m n : Int32) (a1 a2 a3 a4 a5 a6 : Nat → Int32) (c : Int32) : Bool :=
  if c < 0 then k m a1 a3 a5 a6 else (if c ≤ 3 then (if m = 10 then k m a1 a3 a5 a6 else (sw_in m 10 && sw_row (fun b3 b5 b6 => sw_row (fun b3 b5 b6 => sw_row (fun b3 b5 b6 => k (m + 1) (upd a1 m.toNatClampNeg c) b3 b5 b6) n (upd a1 m.toNatClampNeg c) a2 b3 a4 b5 b6 1) n (upd a1 m.toNatClampNeg c) a2 b3 a4 b5 b6 1) n (upd a1 m.toNatClampNeg c) a2 a3 a4 a5 a6 0)) else k m a1 a3 a5 a6)
theorem sw_grA_ok {k : Int32 → (Nat → Int32) → (Nat → Int32) → (Nat → Int32) → (Nat → Int32) → Bool} {post : Int32 → St2 → Prop} {m n : Int32} {a1 a2 a3 a4 a5 a6 : Nat → Int32} {c : Int32} (h : sw_grA k m n a1 a2 a3 a4 a5 a6 c = true) (hk : ∀ q b1 b3 b5 b6, k q b1 b3 b5 b6 = true → ∀ r, post r (q, n, b1, a2, b3, a4, b5, b6)) : wpX_growA post (m, n, a1, a2, a3, a4, a5, a6) c :=
  sw_br h (fun h => br_f (by decide) (hk _ _ _ _ _ h _)) (fun h => sw_br h (fun h => br_t rfl (sw_br h (fun h => hk _ _ _ _ _ h _) (fun h => sw_and h (fun h => nm_e (nm_e (sw_row_ok h (fun b3 b5 b6 h => sw_row_ok h (fun b3 b5 b6 h => sw_row_ok h (fun b3 b5 b6 h => hk _ _ _ _ _ h _))))))))) (fun h => br_f (by decide) (hk _ _ _ _ _ h _)))
def sw_grB (k : Int32 → (Nat → Int32) → (Nat → Int32) → (Nat → Int32) → (Nat → Int32) → Bool) (n : Int32) (a1 a2 a3 a4 a5 a6 : Nat → Int32) (c : Int32) : Bool :=
  if c < 0 then k n a2 a4 a5 a6 else (if c ≤ 3 then (if n = 14 then k n a2 a4 a5 a6 else (sw_in n 14 && sw_col (fun b4 b5 b6 => sw_col (fun b4 b5 b6 => sw_col (fun b4 b5 b6 => k (n + 1) (upd a2 n.toNatClampNeg c) b4 b5 b6) (n + 1) a1 (upd a2 n.toNatClampNeg c) a3 b4 b5 b6 1) (n + 1) a1 (upd a2 n.toNatClampNeg c) a3 b4 b5 b6 1) (n + 1) a1 (upd a2 n.toNatClampNeg c) a3 a4 a5 a6 0)) else k n a2 a4 a5 a6)
theorem sw_grB_ok {k : Int32 → (Nat → Int32) → (Nat → Int32) → (Nat → Int32) → (Nat → Int32) → Bool} {post : Int32 → St2 → Prop} {m n : Int32} {a1 a2 a3 a4 a5 a6 : Nat → Int32} {c : Int32} (h : sw_grB k n a1 a2 a3 a4 a5 a6 c = true) (hk : ∀ q b2 b4 b5 b6, k q b2 b4 b5 b6 = true → ∀ r, post r (m, q, a1, b2, a3, b4, b5, b6)) : wpX_growB post (m, n, a1, a2, a3, a4, a5, a6) c :=
  sw_br h (fun h => br_f (by decide) (hk _ _ _ _ _ h _)) (fun h => sw_br h (fun h => br_t rfl (sw_br h (fun h => hk _ _ _ _ _ h _) (fun h => sw_and h (fun h => nm_e (nm_e (sw_col_ok h (fun b4 b5 b6 h => sw_col_ok h (fun b4 b5 b6 h => sw_col_ok h (fun b4 b5 b6 h => hk _ _ _ _ _ h _))))))))) (fun h => br_f (by decide) (hk _ _ _ _ _ h _)))
/-- any two bad letters are one -/
theorem sw_grA_bad {post : Int32 → St2 → Prop} {u : St2} {c : Int32} (hc : sw_bad c) (h : wpX_growA post u 4) : wpX_growA post u c := by
  obtain ⟨m, n, a1, a2, a3, a4, a5, a6⟩ := u
  have h2 : post (-1) (m, n, a1, a2, a3, a4, a5, a6) := ((h.2 (by decide)).2 (by decide)).2 (by decide)
  unfold wpX_growA
  exact sw_badL hc (br_f (by decide) h2)
theorem sw_grB_bad {post : Int32 → St2 → Prop} {u : St2} {c : Int32} (hc : sw_bad c) (h : wpX_growB post u 4) : wpX_growB post u c := by
  obtain ⟨m, n, a1, a2, a3, a4, a5, a6⟩ := u
  have h2 : post (-1) (m, n, a1, a2, a3, a4, a5, a6) := ((h.2 (by decide)).2 (by decide)).2 (by decide)
  unfold wpX_growB
  exact sw_badL hc (br_f (by decide) h2)

/-! common, and what stands on it -/
def sw_c68 (k : Int32 → Bool) (x1 x2 x3 x5 : Int32) (a3 a5 : Nat → Int32) : Nat → Int32 → Int32 → Bool
  | 0 => fun _ _ => false
  | f + 1 => fun x4 x6 => sw_in x1 3 && (if a3 x1.toNatClampNeg ≤ x6 then k ((x3 - x2) - x4) else (sw_in ((x1 * 20) + x6) 60 && (if a5 ((x1 * 20) + x6).toNatClampNeg < x2 then sw_c68 k x1 x2 x3 x5 a3 a5 f x4 (x6 + 1) else (if x3 ≤ x5 - x6 then sw_c68 k x1 x2 x3 x5 a3 a5 f x4 (x6 + 1) else sw_c68 k x1 x2 x3 x5 a3 a5 f (x4 + 1) (x6 + 1)))))
theorem sw_c68_ok {k : Int32 → Bool} {post : Int32 → Prop} {x1 x2 x3 x5 m n : Int32} {a1 a2 a3 a4 a5 a6 : Nat → Int32} (hk : ∀ r, k r = true → post r) : ∀ (f : Nat) (x4 x6 : Int32), sw_c68 k x1 x2 x3 x5 a3 a5 f x4 x6 = true → wX_common_68 post x1 x2 x3 x5 m n a1 a2 a3 a4 a5 a6 f x4 x6
  | 0, _, _, h => absurd h Bool.false_ne_true
  | f + 1, x4, x6, h => sw_and h (fun h => sw_br h (fun h => hk _ h) (fun h => sw_and h (fun h => sw_br h (fun h => nm_e (sw_c68_ok hk f _ _ h)) (fun h => sw_br h (fun h => nm_e (sw_c68_ok hk f _ _ h)) (fun h => nm_e (nm_e (sw_c68_ok hk f _ _ h)))))))
def sw_c23 (k : Int32 → Bool) (x1 x2 x3 x5 : Int32) (a3 a4 a5 a6 : Nat → Int32) : Nat → Int32 → Int32 → Bool
  | 0 => fun _ _ => false
  | f + 1 => fun x4 x6 => sw_in x1 3 && (if a4 x1.toNatClampNeg ≤ x6 then sw_c68 k x1 x2 x3 x5 a3 a5 8 x4 0 else (sw_in ((x1 * 28) + x6) 84 && (if a6 ((x1 * 28) + x6).toNatClampNeg < x2 then sw_c23 k x1 x2 x3 x5 a3 a4 a5 a6 f x4 (x6 + 1) else (if x3 ≤ x6 then sw_c23 k x1 x2 x3 x5 a3 a4 a5 a6 f x4 (x6 + 1) else sw_c23 k x1 x2 x3 x5 a3 a4 a5 a6 f (x4 + 1) (x6 + 1)))))
theorem sw_c23_ok {k : Int32 → Bool} {post : Int32 → Prop} {x1 x2 x3 x5 m n : Int32} {a1 a2 a3 a4 a5 a6 : Nat → Int32} (hk : ∀ r, k r = true → post r) : ∀ (f : Nat) (x4 x6 : Int32), sw_c23 k x1 x2 x3 x5 a3 a4 a5 a6 f x4 x6 = true → wX_common_23 post x1 x2 x3 x5 m n a1 a2 a3 a4 a5 a6 f x4 x6
  | 0, _, _, h => absurd h Bool.false_ne_true
  | f + 1, x4, x6, h => sw_and h (fun h => sw_br h (fun h => ⟨8, sw_c68_ok hk 8 _ _ h⟩) (fun h => sw_and h (fun h => sw_br h (fun h => nm_e (sw_c23_ok hk f _ _ h)) (fun h => sw_br h (fun h => nm_e (sw_c23_ok hk f _ _ h)) (fun h => nm_e (nm_e (sw_c23_ok hk f _ _ h)))))))
def sw_com (k : Int32 → Bool) (a3 a4 a5 a6 : Nat → Int32) (p0 p1 p2 : Int32) : Bool :=
  sw_in p0 3 && (sw_in p0 3 && sw_c23 k p0 p1 p2 ((a4 p0.toNatClampNeg + a3 p0.toNatClampNeg) - 1) a3 a4 a5 a6 8 0 0)
theorem sw_com_ok {k : Int32 → Bool} {post : Int32 → Prop} {m n : Int32} {a1 a2 a3 a4 a5 a6 : Nat → Int32} {p0 p1 p2 : Int32} (h : sw_com k a3 a4 a5 a6 p0 p1 p2 = true) (hk : ∀ r, k r = true → post r) : wpX_common post (m, n, a1, a2, a3, a4, a5, a6) p0 p1 p2 :=
  sw_and h (fun h => sw_and h (fun h => nm_e ⟨8, sw_c23_ok hk 8 _ _ h⟩))
def sw_str (p0 p1 p2 : Int32) (k : Int32 → Bool) : Bool := if p0 < 0 then k 1 else (if p1 < p0 then k 1 else (if p1 ≤ p2 then k 0 else k 1))
theorem sw_str_ok {k : Int32 → Bool} {post : Int32 → Prop} {m n : Int32} {a1 a2 a3 a4 a5 a6 : Nat → Int32} {p0 p1 p2 : Int32} (h : sw_str p0 p1 p2 k = true) (hk : ∀ r, k r = true → post r) : wpX_badStretch post (m, n, a1, a2, a3, a4, a5, a6) p0 p1 p2 :=
  sw_br h (fun h => hk _ h) (fun h => sw_br h (fun h => hk _ h) (fun h => sw_br h (fun h => hk _ h) (fun h => hk _ h)))
def sw_comB (k : Int32 → Bool) (n : Int32) (a3 a4 a5 a6 : Nat → Int32) (p0 p1 : Int32) : Bool :=
  sw_str p0 p1 n (fun r => if r = 0 then sw_com k a3 a4 a5 a6 0 p0 p1 else k (-1))
theorem sw_comB_ok {k : Int32 → Bool} {post : Int32 → Prop} {m n : Int32} {a1 a2 a3 a4 a5 a6 : Nat → Int32} {p0 p1 : Int32} (h : sw_comB k n a3 a4 a5 a6 p0 p1 = true) (hk : ∀ r, k r = true → post r) : wpX_commonB post (m, n, a1, a2, a3, a4, a5, a6) p0 p1 :=
  sw_str_ok (m := m) (a1 := a1) (a2 := a2) (a3 := a3) (a4 := a4) (a5 := a5) (a6 := a6) (n := n) h (fun r h => sw_br h (fun h => sw_com_ok h hk) (fun h => hk _ h))
def sw_chg (k : Int32 → Bool) (m : Int32) (a3 a4 a5 a6 : Nat → Int32) (p0 p1 : Int32) : Bool :=
  sw_com (fun r => k (((m + p1) - p0) - r)) a3 a4 a5 a6 1 (2 * p0) (2 * p1)
theorem sw_chg_ok {k : Int32 → Bool} {post : Int32 → Prop} {m n : Int32} {a1 a2 a3 a4 a5 a6 : Nat → Int32} {p0 p1 : Int32} (h : sw_chg k m a3 a4 a5 a6 p0 p1 = true) (hk : ∀ r, k r = true → post r) : wpX_changes post (m, n, a1, a2, a3, a4, a5, a6) p0 p1 :=
  sw_com_ok h (fun r h => hk _ h)
def sw_chgB (k : Int32 → Bool) (m n : Int32) (a3 a4 a5 a6 : Nat → Int32) (p0 p1 : Int32) : Bool :=
  sw_str p0 p1 n (fun r => if r = 0 then sw_chg k m a3 a4 a5 a6 p0 p1 else k (-1))
theorem sw_chgB_ok {k : Int32 → Bool} {post : Int32 → Prop} {m n : Int32} {a1 a2 a3 a4 a5 a6 : Nat → Int32} {p0 p1 : Int32} (h : sw_chgB k m n a3 a4 a5 a6 p0 p1 = true) (hk : ∀ r, k r = true → post r) : wpX_changesB post (m, n, a1, a2, a3, a4, a5, a6) p0 p1 :=
  sw_str_ok (m := m) (a1 := a1) (a2 := a2) (a3 := a3) (a4 := a4) (a5 := a5) (a6 := a6) (n := n) h (fun r h => sw_br h (fun h => sw_chg_ok h hk) (fun h => hk _ h))

/-! the nearest -/
def sw_n18 (J : Int32 → Int32 → Int32 → Bool) (x3 m n : Int32) (a3 a4 a5 a6 : Nat → Int32) : Nat → Int32 → Int32 → Int32 → Bool
  | 0 => fun _ _ _ => false
  | f + 1 => fun x1 x2 x4 => if n < x4 then J x1 x2 (x3 + 1) else sw_chg (fun r => if x1 ≤ r then sw_n18 J x3 m n a3 a4 a5 a6 f x1 x2 (x4 + 1) else sw_n18 J x3 m n a3 a4 a5 a6 f r ((16 * x3) + x4) (x4 + 1)) m a3 a4 a5 a6 x3 x4
theorem sw_n18_ok {J : Int32 → Int32 → Int32 → Bool} {post : Int32 → Prop} {J7 : Int32 → Int32 → Int32 → Prop} {x3 m n : Int32} {a1 a2 a3 a4 a5 a6 : Nat → Int32} (hJ : ∀ x y z, J x y z = true → J7 x y z) : ∀ (f : Nat) (x1 x2 x4 : Int32), sw_n18 J x3 m n a3 a4 a5 a6 f x1 x2 x4 = true → wX_nearestAt_18 post J7 x3 m n a1 a2 a3 a4 a5 a6 f x1 x2 x4
  | 0, _, _, _, h => absurd h Bool.false_ne_true
  | f + 1, x1, x2, x4, h => sw_br h (fun h => nm_e (hJ _ _ _ h)) (fun h => sw_chg_ok h (fun r h => sw_br h (fun h => nm_e (sw_n18_ok hJ f _ _ _ h)) (fun h => nm_e (nm_e (sw_n18_ok hJ f _ _ _ h)))))
def sw_n7 (k : Int32 → Bool) (m n : Int32) (a3 a4 a5 a6 : Nat → Int32) : Nat → Int32 → Int32 → Int32 → Bool
  | 0 => fun _ _ _ => false
  | f + 1 => fun x1 x2 x3 => if n < x3 then k x2 else sw_n18 (sw_n7 k m n a3 a4 a5 a6 f) x3 m n a3 a4 a5 a6 6 x1 x2 x3
theorem sw_n7_ok {k : Int32 → Bool} {post : Int32 → Prop} {m n : Int32} {a1 a2 a3 a4 a5 a6 : Nat → Int32} (hk : ∀ r, k r = true → post r) : ∀ (f : Nat) (x1 x2 x3 : Int32), sw_n7 k m n a3 a4 a5 a6 f x1 x2 x3 = true → wX_nearestAt_7 post m n a1 a2 a3 a4 a5 a6 f x1 x2 x3
  | 0, _, _, _, h => absurd h Bool.false_ne_true
  | f + 1, x1, x2, x3, h => sw_br h (fun h => hk _ h) (fun h => ⟨6, sw_n18_ok (fun x y z h => sw_n7_ok hk f x y z h) 6 _ _ _ h⟩)
def sw_nat (k : Int32 → Bool) (m n : Int32) (a3 a4 a5 a6 : Nat → Int32) : Bool := sw_n7 k m n a3 a4 a5 a6 6 100 0 0
theorem sw_nat_ok {k : Int32 → Bool} {post : Int32 → Prop} {m n : Int32} {a1 a2 a3 a4 a5 a6 : Nat → Int32} (h : sw_nat k m n a3 a4 a5 a6 = true) (hk : ∀ r, k r = true → post r) : wpX_nearestAt post (m, n, a1, a2, a3, a4, a5, a6) :=
  ⟨6, sw_n7_ok hk 6 _ _ _ h⟩
def sw_near (k : Int32 → Bool) (m n : Int32) (a3 a4 a5 a6 : Nat → Int32) : Bool := sw_nat (fun r => sw_chg k m a3 a4 a5 a6 (r >>> ((4 : Int32) &&& 31)) (r &&& 15)) m n a3 a4 a5 a6
theorem sw_near_ok {k : Int32 → Bool} {post : Int32 → Prop} {m n : Int32} {a1 a2 a3 a4 a5 a6 : Nat → Int32} (h : sw_near k m n a3 a4 a5 a6 = true) (hk : ∀ r, k r = true → post r) : wpX_nearest post (m, n, a1, a2, a3, a4, a5, a6) :=
  sw_nat_ok h (fun r h => sw_chg_ok h hk)

/-! widest, shortest -/
def sw_w6 (k : Int32 → Bool) (x1 x2 x3 : Int32) (a3 a4 a5 a6 : Nat → Int32) : Nat → Int32 → Int32 → Bool
  | 0 => fun _ _ => false
  | f + 1 => fun x4 x5 => if x3 ≤ x5 then k x4 else sw_com (fun r => if r ≤ x4 then sw_w6 k x1 x2 x3 a3 a4 a5 a6 f x4 (x5 + 1) else sw_w6 k x1 x2 x3 a3 a4 a5 a6 f r (x5 + 1)) a3 a4 a5 a6 x1 x5 (x5 + x2)
theorem sw_w6_ok {k : Int32 → Bool} {post : Int32 → Prop} {x1 x2 x3 m n : Int32} {a1 a2 a3 a4 a5 a6 : Nat → Int32} (hk : ∀ r, k r = true → post r) : ∀ (f : Nat) (x4 x5 : Int32), sw_w6 k x1 x2 x3 a3 a4 a5 a6 f x4 x5 = true → wX_widestOf_6 post x1 x2 x3 m n a1 a2 a3 a4 a5 a6 f x4 x5
  | 0, _, _, h => absurd h Bool.false_ne_true
  | f + 1, x4, x5, h => sw_br h (fun h => hk _ h) (fun h => sw_com_ok h (fun r h => sw_br h (fun h => nm_e (sw_w6_ok hk f _ _ h)) (fun h => nm_e (sw_w6_ok hk f _ _ h))))
def sw_wof (k : Int32 → Bool) (a3 a4 a5 a6 : Nat → Int32) (p0 p1 p2 : Int32) : Bool := sw_w6 k p0 p1 p2 a3 a4 a5 a6 6 0 0
theorem sw_wof_ok {k : Int32 → Bool} {post : Int32 → Prop} {m n : Int32} {a1 a2 a3 a4 a5 a6 : Nat → Int32} {p0 p1 p2 : Int32} (h : sw_wof k a3 a4 a5 a6 p0 p1 p2 = true) (hk : ∀ r, k r = true → post r) : wpX_widestOf post (m, n, a1, a2, a3, a4, a5, a6) p0 p1 p2 :=
  ⟨6, sw_w6_ok hk 6 _ _ h⟩
def sw_s2 (k : Int32 → Bool) (x1 n : Int32) (a3 a4 a5 a6 : Nat → Int32) : Nat → Int32 → Bool
  | 0 => fun _ => false
  | f + 1 => fun x2 => if n < x2 then k (-4) else sw_wof (fun r => if r < x1 then sw_s2 k x1 n a3 a4 a5 a6 f (x2 + 1) else k x2) a3 a4 a5 a6 0 x2 ((n - x2) + 1)
theorem sw_s2_ok {k : Int32 → Bool} {post : Int32 → Prop} {x1 m n : Int32} {a1 a2 a3 a4 a5 a6 : Nat → Int32} (hk : ∀ r, k r = true → post r) : ∀ (f : Nat) (x2 : Int32), sw_s2 k x1 n a3 a4 a5 a6 f x2 = true → wX_shortest_2 post x1 m n a1 a2 a3 a4 a5 a6 f x2
  | 0, _, h => absurd h Bool.false_ne_true
  | f + 1, x2, h => sw_br h (fun h => hk _ h) (fun h => sw_wof_ok h (fun r h => sw_br h (fun h => nm_e (sw_s2_ok hk f _ h)) (fun h => hk _ h)))
def sw_sho (k : Int32 → Bool) (n : Int32) (a3 a4 a5 a6 : Nat → Int32) (p0 : Int32) : Bool := sw_s2 k p0 n a3 a4 a5 a6 6 0
theorem sw_sho_ok {k : Int32 → Bool} {post : Int32 → Prop} {m n : Int32} {a1 a2 a3 a4 a5 a6 : Nat → Int32} {p0 : Int32} (h : sw_sho k n a3 a4 a5 a6 p0 = true) (hk : ∀ r, k r = true → post r) : wpX_shortest post (m, n, a1, a2, a3, a4, a5, a6) p0 :=
  ⟨6, sw_s2_ok hk 6 _ h⟩
def sw_wid (k : Int32 → Bool) (n : Int32) (a3 a4 a5 a6 : Nat → Int32) (p0 : Int32) : Bool := if p0 < 0 then k (-4) else (if p0 ≤ n then sw_wof k a3 a4 a5 a6 0 p0 ((n - p0) + 1) else k (-4))
theorem sw_wid_ok {k : Int32 → Bool} {post : Int32 → Prop} {m n : Int32} {a1 a2 a3 a4 a5 a6 : Nat → Int32} {p0 : Int32} (h : sw_wid k n a3 a4 a5 a6 p0 = true) (hk : ∀ r, k r = true → post r) : wpX_widest post (m, n, a1, a2, a3, a4, a5, a6) p0 :=
  sw_br h (fun h => hk _ h) (fun h => sw_br h (fun h => sw_wof_ok h hk) (fun h => hk _ h))

/-! the third braid -/
def sw_k37 (k : (Nat → Int32) → (Nat → Int32) → (Nat → Int32) → Bool) (x1 x3 n : Int32) (a1 a2 a3 : Nat → Int32) : Nat → Int32 → (Nat → Int32) → (Nat → Int32) → (Nat → Int32) → Bool
  | 0 => fun _ _ _ _ => false
  | f + 1 => fun x4 a4 a5 a6 => if x3 ≤ x4 then k a4 a5 a6 else sw_col (fun b4 b5 b6 => sw_k37 k x1 x3 n a1 a2 a3 f (x4 + 1) b4 b5 b6) n a1 a2 a3 a4 a5 a6 x1
theorem sw_k37_ok {k : (Nat → Int32) → (Nat → Int32) → (Nat → Int32) → Bool} {post : St2 → Prop} {x1 x3 m n : Int32} {a1 a2 a3 : Nat → Int32} (hk : ∀ b4 b5 b6, k b4 b5 b6 = true → post (m, n, a1, a2, a3, b4, b5, b6)) : ∀ (f : Nat) (x4 : Int32) (a4 a5 a6 : Nat → Int32), sw_k37 k x1 x3 n a1 a2 a3 f x4 a4 a5 a6 = true → wX_combAll_37 post x1 x3 f x4 m n a1 a2 a3 a4 a5 a6
  | 0, _, _, _, _, h => absurd h Bool.false_ne_true
  | f + 1, x4, a4, a5, a6, h => sw_br h (fun h => hk _ _ _ h) (fun h => sw_col_ok h (fun b4 b5 b6 h => nm_e (sw_k37_ok hk f _ _ _ _ h)))
def sw_k17 (k : (Nat → Int32) → (Nat → Int32) → (Nat → Int32) → (Nat → Int32) → Bool) (x1 x2 x3 n : Int32) (a1 a2 a4 : Nat → Int32) : Nat → Int32 → (Nat → Int32) → (Nat → Int32) → (Nat → Int32) → Bool
  | 0 => fun _ _ _ _ => false
  | f + 1 => fun x4 a3 a5 a6 => if x2 ≤ x4 then sw_k37 (k a3) x1 x3 n a1 a2 a3 8 0 a4 a5 a6 else sw_row (fun b3 b5 b6 => sw_k17 k x1 x2 x3 n a1 a2 a4 f (x4 + 1) b3 b5 b6) n a1 a2 a3 a4 a5 a6 x1
theorem sw_k17_ok {k : (Nat → Int32) → (Nat → Int32) → (Nat → Int32) → (Nat → Int32) → Bool} {post : St2 → Prop} {x1 x2 x3 m n : Int32} {a1 a2 a4 : Nat → Int32} (hk : ∀ b3 b4 b5 b6, k b3 b4 b5 b6 = true → post (m, n, a1, a2, b3, b4, b5, b6)) : ∀ (f : Nat) (x4 : Int32) (a3 a5 a6 : Nat → Int32), sw_k17 k x1 x2 x3 n a1 a2 a4 f x4 a3 a5 a6 = true → wX_combAll_17 post x1 x2 x3 f x4 m n a1 a2 a3 a4 a5 a6
  | 0, _, _, _, _, h => absurd h Bool.false_ne_true
  | f + 1, x4, a3, a5, a6, h => sw_br h (fun h => ⟨8, sw_k37_ok (hk a3) 8 0 _ _ _ h⟩) (fun h => sw_row_ok h (fun b3 b5 b6 h => nm_e (sw_k17_ok hk f _ _ _ _ h)))
def sw_all (k : (Nat → Int32) → (Nat → Int32) → (Nat → Int32) → (Nat → Int32) → Bool) (n : Int32) (a1 a2 a3 a4 a5 a6 : Nat → Int32) (p0 p1 p2 : Int32) : Bool :=
  sw_in p0 3 && (sw_in p0 3 && sw_k17 k p0 p1 p2 n a1 a2 (upd a4 p0.toNatClampNeg 0) 8 0 (upd a3 p0.toNatClampNeg 0) a5 a6)
theorem sw_all_ok {k : (Nat → Int32) → (Nat → Int32) → (Nat → Int32) → (Nat → Int32) → Bool} {post : St2 → Prop} {m n : Int32} {a1 a2 a3 a4 a5 a6 : Nat → Int32} {p0 p1 p2 : Int32} (h : sw_all k n a1 a2 a3 a4 a5 a6 p0 p1 p2 = true) (hk : ∀ b3 b4 b5 b6, k b3 b4 b5 b6 = true → post (m, n, a1, a2, b3, b4, b5, b6)) : wpX_combAll post (m, n, a1, a2, a3, a4, a5, a6) p0 p1 p2 :=
  sw_and h (fun h => nm_e (sw_and h (fun h => nm_e ⟨8, sw_k17_ok hk 8 0 _ _ _ h⟩)))
def sw_rot (k : Int32 → Bool) (m n : Int32) (a1 a2 a3 a4 a5 a6 : Nat → Int32) : Bool :=
  if n = 0 then k 0 else sw_all (fun b3 b4 b5 b6 => sw_wof k b3 b4 b5 b6 2 n n) n a1 a2 a3 a4 a5 a6 2 m (2 * n)
theorem sw_rot_ok {k : Int32 → Bool} {post : Int32 → St2 → Prop} {m n : Int32} {a1 a2 a3 a4 a5 a6 : Nat → Int32} (h : sw_rot k m n a1 a2 a3 a4 a5 a6 = true) (hk : ∀ r, k r = true → ∀ u, post r u) : wpX_rotated post (m, n, a1, a2, a3, a4, a5, a6) :=
  sw_br h (fun h => hk _ h _) (fun h => sw_all_ok h (fun b3 b4 b5 b6 h => sw_wof_ok h (fun r h => hk r h _)))
end
section
/-! what the law expects, out of five flags: A, B, C: the letter is one of 0 .. 3; E: the letter of b, of c is that of a -/
def sw_here (A B C E F : Bool) : Bool := A && ((B || C) && (if B then E else F))
def sw_one (A B C E F : Bool) : Bool := sw_here A B C E F || (A && (B && (C && F)))
def sw_b (A : Bool) : Int32 := if A then 1 else 0
def sw_chk (A B C E F : Bool) (r1 r2 r3 r4 r5 r6 r7 : Int32) : Bool :=
  decide (r1 = if B && C then sw_b (sw_one A B C E F) else (-1)) && (decide (r2 = if B && C then (if A && sw_one A B C E F then 1 else 2) else (-1)) && (decide (r3 = sw_b (A && !(sw_one A B C E F))) && (decide (r4 = if sw_one A B C E F then (if sw_here A B C E F then 1 else 18) else 0) && (decide (r5 = if sw_one A B C E F then 1 else (-4)) && (decide (r6 = if B || C then sw_b (sw_one A B C E F) else (-4)) && decide (r7 = sw_b (sw_one A B C E F)))))))
def sw_qs (K : Int32 → Int32 → Int32 → Int32 → Int32 → Int32 → Int32 → Bool) (m n : Int32) (a1 a2 a3 a4 a5 a6 : Nat → Int32) : Bool :=
  sw_comB (fun r1 => sw_chgB (fun r2 => sw_near (fun r3 => sw_nat (fun r4 => sw_sho (fun r5 => sw_wid (fun r6 => sw_rot (fun r7 => K r1 r2 r3 r4 r5 r6 r7) m n a1 a2 a3 a4 a5 a6) n a3 a4 a5 a6 1) n a3 a4 a5 a6 1) m n a3 a4 a5 a6) m n a3 a4 a5 a6) m n a3 a4 a5 a6 0 2) n a3 a4 a5 a6 0 2
def sw_run (K : Int32 → Int32 → Int32 → Int32 → Int32 → Int32 → Int32 → Bool) (x y z : Int32) : Bool :=
  sw_grA (fun m b1 b3 b5 b6 => sw_grB (fun n b2 b4 b5 b6 => sw_grB (fun n b2 b4 b5 b6 => sw_qs K m n b1 b2 b3 b4 b5 b6) n b1 b2 b3 b4 b5 b6 z) 0 b1 (fun _ => 0) b3 (fun _ => 0) b5 b6 y) 0 0 (fun _ => 0) (fun _ => 0) (fun _ => 0) (fun _ => 0) (fun _ => 0) (fun _ => 0) x
def sw_row3 (a b c : Nat) : Bool := sw_run (sw_chk (decide (a < 4)) (decide (b < 4)) (decide (c < 4)) (decide (b = a)) (decide (c = a))) (nI a) (nI b) (nI c)
/-- the table: all 125 triples of classes -/
theorem sw_tab : ∀ a, a < 5 → ∀ b, b < 5 → ∀ c, c < 5 → sw_row3 a b c = true := by decide +kernel
end
section
/-! the law's own checks -/
theorem sw_ent {p : Int32} {A : Bool} {P Q : Prop} (hA : (A = true ∧ ¬ p < 0 ∧ ¬ 3 < p) ∨ (A = false ∧ (p < 0 ∨ 3 < p))) (hP : A = false → P) (hQ : A = true → Q) : (p < 0 → P) ∧ (¬ p < 0 → ((3 < p → P) ∧ (¬ 3 < p → Q))) := by
  rcases hA with ⟨e, h1, h2⟩ | ⟨e, h⟩
  · exact br_f h1 (br_f h2 (hQ e))
  · exact br_c (fun _ => hP e) (fun h1 => br_t (h.resolve_left h1) (hP e))
theorem sw_t142 {A B C E F : Bool} {mc ms kc ks : Nat} {p0 p1 p2 r1 r2 r3 r4 r5 r6 r7 : Int32} (h1 : A = true → B = true → (E = true ↔ p1 = p0)) (h2 : A = true → C = true → (F = true ↔ p2 = p0)) (h : sw_chk A B C E F r1 r2 r3 r4 r5 r6 r7 = true) : wL_lawOf_142 (fun r _ => r = 1) mc ms p0 p1 p2 r1 r2 r3 r4 r5 r6 r7 (sw_b A) (sw_b B) (sw_b C) (sw_b B) kc ks := by
  unfold sw_chk at h
  simp only [Bool.and_eq_true, decide_eq_true_eq] at h
  obtain ⟨rfl, rfl, rfl, rfl, rfl, rfl, rfl⟩ := h
  cases A <;> cases B <;> cases C <;> cases E <;> cases F <;> simp [sw_b, sw_one, sw_here] at h1 h2 <;> simp [h1, h2, sw_b, sw_one, sw_here, wL_lawOf_142, wL_lawOf_155, wL_lawOf_177, wL_lawOf_178, wL_lawOf_200, wL_lawOf_201, wL_lawOf_213, wL_lawOf_218, wL_lawOf_234, wL_lawOf_269, wL_lawOf_288, wL_lawOf_289, wL_lawOf_314, wL_lawOf_331, wL_lawOf_348]
theorem sw_t120 {A B C E F : Bool} {mc ms kc ks : Nat} {p0 p1 p2 r1 r2 r3 r4 r5 r6 r7 : Int32} (h1 : A = true → B = true → (E = true ↔ p1 = p0)) (h2 : A = true → C = true → (F = true ↔ p2 = p0)) (h : sw_chk A B C E F r1 r2 r3 r4 r5 r6 r7 = true) : wL_lawOf_120 (fun r _ => r = 1) mc ms p0 p1 p2 r1 r2 r3 r4 r5 r6 r7 (sw_b A) (sw_b B) (sw_b C) kc ks := by
  have t := sw_t142 (mc := mc) (ms := ms) (kc := kc) (ks := ks) h1 h2 h
  cases B <;> cases C
  · exact br_t rfl (br_t rfl t)
  · exact br_t rfl (br_f (by decide) t)
  · exact br_f (by decide) (br_t rfl t)
  · exact br_f (by decide) (br_f (by decide) t)
theorem sw_tail {A B C E F : Bool} {mc ms kc ks : Nat} {p0 p1 p2 r1 r2 r3 r4 r5 r6 r7 : Int32} (hA : (A = true ∧ ¬ p0 < 0 ∧ ¬ 3 < p0) ∨ (A = false ∧ (p0 < 0 ∨ 3 < p0))) (hB : (B = true ∧ ¬ p1 < 0 ∧ ¬ 3 < p1) ∨ (B = false ∧ (p1 < 0 ∨ 3 < p1))) (hC : (C = true ∧ ¬ p2 < 0 ∧ ¬ 3 < p2) ∨ (C = false ∧ (p2 < 0 ∨ 3 < p2))) (h1 : A = true → B = true → (E = true ↔ p1 = p0)) (h2 : A = true → C = true → (F = true ↔ p2 = p0)) (h : sw_chk A B C E F r1 r2 r3 r4 r5 r6 r7 = true) :
    (p0 < 0 → wL_lawOf_87 (fun r _ => r = 1) mc ms p0 p1 p2 r1 r2 r3 r4 r5 r6 r7 kc ks) ∧ (¬ p0 < 0 → ((3 < p0 → wL_lawOf_87 (fun r _ => r = 1) mc ms p0 p1 p2 r1 r2 r3 r4 r5 r6 r7 kc ks) ∧ (¬ 3 < p0 → wL_lawOf_88 (fun r _ => r = 1) mc ms p0 p1 p2 r1 r2 r3 r4 r5 r6 r7 1 kc ks))) := by
  have t := sw_t120 (mc := mc) (ms := ms) (kc := kc) (ks := ks) h1 h2 h
  have t104 : wL_lawOf_104 (fun r _ => r = 1) mc ms p0 p1 p2 r1 r2 r3 r4 r5 r6 r7 (sw_b A) (sw_b B) kc ks := sw_ent hC (fun e => by rw [e] at t; exact t) (fun e => by rw [e] at t; exact t)
  have t88 : wL_lawOf_88 (fun r _ => r = 1) mc ms p0 p1 p2 r1 r2 r3 r4 r5 r6 r7 (sw_b A) kc ks := sw_ent hB (fun e => by rw [e] at t104; exact t104) (fun e => by rw [e] at t104; exact t104)
  exact sw_ent hA (fun e => by rw [e] at t88; exact t88) (fun e => by rw [e] at t88; exact t88)
end
section
/-! the letters' classes: 0 .. 3, and 4 for every other int -/
def sw_is (p : Int32) (a : Nat) : Prop := (a < 4 ∧ p = nI a) ∨ (a = 4 ∧ sw_bad p)
theorem sw_cls (p : Int32) : ∃ a, a < 5 ∧ sw_is p a := by
  by_cases h : sw_bad p
  · exact ⟨4, by decide, Or.inr ⟨rfl, h⟩⟩
  · have h0 : ¬ p < 0 := fun z => h (Or.inl z)
    have h3 : p ≤ 3 := Decidable.byContradiction (fun z => h (Or.inr z))
    obtain ⟨j, hj, e⟩ := nI_of2 (M := 3) (n := 3) (by decide) h0 h3
    exact ⟨j, by omega, Or.inl ⟨by omega, e⟩⟩
theorem sw_flag {p : Int32} {a : Nat} (h : sw_is p a) : (decide (a < 4) = true ∧ ¬ p < 0 ∧ ¬ 3 < p) ∨ (decide (a < 4) = false ∧ (p < 0 ∨ 3 < p)) := by
  rcases h with ⟨h, rfl⟩ | ⟨rfl, h⟩
  · exact Or.inl ⟨decide_eq_true h, nI_pos (by omega), nI_nlt (a := 3) (b := a) (by omega) (by omega)⟩
  · refine Or.inr ⟨rfl, h.elim Or.inl (fun z => Or.inr ?_)⟩
    exact Int32.not_le.mp z
theorem sw_eqf {p q : Int32} {a b : Nat} (h : sw_is p a) (h' : sw_is q b) (ha : decide (a < 4) = true) (hb : decide (b < 4) = true) : decide (b = a) = true ↔ q = p := by
  rw [decide_eq_true_eq] at ha hb ⊢
  rcases h with ⟨_, rfl⟩ | ⟨e, _⟩
  · rcases h' with ⟨_, rfl⟩ | ⟨e, _⟩
    · exact (nI_eq (by omega) (by omega)).symm
    · omega
  · omega
theorem sw_toA {post : Int32 → St2 → Prop} {u : St2} {p : Int32} {a : Nat} (h : sw_is p a) (w : wpX_growA post u (nI a)) : wpX_growA post u p := by
  rcases h with ⟨_, rfl⟩ | ⟨rfl, h⟩
  · exact w
  · exact sw_grA_bad h w
theorem sw_toB {post : Int32 → St2 → Prop} {u : St2} {p : Int32} {a : Nat} (h : sw_is p a) (w : wpX_growB post u (nI a)) : wpX_growB post u p := by
  rcases h with ⟨_, rfl⟩ | ⟨rfl, h⟩
  · exact w
  · exact sw_grB_bad h w
theorem sw_law (p0 p1 p2 : Int32) : wpL_lawOf (fun r _ => r = 1) 106 1696 () p0 p1 p2 := by
  obtain ⟨a, ha, ia⟩ := sw_cls p0
  obtain ⟨b, hb, ib⟩ := sw_cls p1
  obtain ⟨c, hc, ic⟩ := sw_cls p2
  have T : sw_row3 a b c = true := sw_tab a ha b hb c hc
  unfold sw_row3 sw_run at T
  refine ⟨by omega, by omega, 6, 174, by omega, by omega, ?_⟩
  refine ⟨by omega, by omega, by omega, by omega, by omega, by omega, by omega, by omega, by omega, by omega, by omega, by omega, ?_⟩
  refine sw_toA ia (sw_grA_ok T (fun m b1 b3 b5 b6 h r => ?_))
  refine sw_toB ib (sw_grB_ok h (fun n b2 b4 b5 b6 h r => ?_))
  refine sw_toB ic (sw_grB_ok h (fun n b2 b4 b5 b6 h r => ?_))
  refine sw_comB_ok h (fun r1 h => ?_)
  refine sw_chgB_ok h (fun r2 h => ?_)
  refine sw_near_ok h (fun r3 h => ?_)
  refine sw_nat_ok h (fun r4 h => ?_)
  refine sw_sho_ok h (fun r5 h => ?_)
  refine sw_wid_ok h (fun r6 h => ?_)
  refine sw_rot_ok h (fun r7 h u => ?_)
  obtain ⟨m', n', c1, c2, c3, c4, c5, c6⟩ := u
  exact sw_tail (sw_flag ia) (sw_flag ib) (sw_flag ic) (sw_eqf ia ib) (sw_eqf ia ic) h
theorem sw_at {post : Int32 → Prop} {L : Nat} {xs : Nat → Int32} {u : St0} {p : Int32} (j : Nat) (hp : p = nI j) (hj : j < 3) (hL : L ≤ 3) (h : ∀ r, post r) : wpL_cellAt post L xs u p :=
  pk_le L j (fun _ => h _) (fun z => ⟨pk_in j L z hp, h _⟩) rfl hp
theorem i_vc (xs : Nat → Int32) (L : Nat) (hL : L ≤ 3) : wpL_law (fun r => r = 1) L xs :=
  sw_at 0 rfl (by decide) hL (fun x => sw_at 1 rfl (by decide) hL (fun y => sw_at 2 rfl (by decide) hL (fun z => ⟨106, 1696, by omega, by omega, sw_law x y z⟩)))
end
