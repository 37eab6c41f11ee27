section
theorem qa_t {c A B : Prop} [Decidable c] (h : decide c = true) (a : A) : (c → A) ∧ (¬ c → B) := br_t (of_decide_eq_true h) a
theorem qa_f {c A B : Prop} [Decidable c] (h : decide c = false) (b : B) : (c → A) ∧ (¬ c → B) := br_f (of_decide_eq_false h) b
theorem qa_v {i : Int32} {n : Nat} {P : Prop} (h : decide (i < 0 ∨ n ≤ i.toNatClampNeg) = false) (p : P) : vp_in i n ∧ P := ⟨of_decide_eq_false h, p⟩
theorem qa_d {c P : Prop} [Decidable c] (h : decide c = true) (p : P) : c ∧ P := ⟨of_decide_eq_true h, p⟩
theorem qa_z (k : Nat) : upd (fun _ => 0) k 0 = (fun _ => 0) := by
  funext j
  unfold upd
  split <;> rfl
theorem qa_le0 {i : Int32} (h : ¬ i < 0) (h' : ¬ i = 0) : ¬ i ≤ 0 := fun z => h' (Int32.le_antisymm z (Int32.not_lt.mp h))
theorem qa_15 {q : Int32} (h : 14 < q) : 15 ≤ q := by
  rw [Int32.lt_iff_toInt_lt] at h
  rw [Int32.le_iff_toInt_le]
  have e1 : (14 : Int32).toInt = 14 := by decide
  have e2 : (15 : Int32).toInt = 15 := by decide
  omega
theorem qa_14 {q : Int32} (h : ¬ 14 < q) : ¬ 15 ≤ q := by
  rw [Int32.lt_iff_toInt_lt] at h
  rw [Int32.le_iff_toInt_le]
  have e1 : (14 : Int32).toInt = 14 := by decide
  have e2 : (15 : Int32).toInt = 15 := by decide
  omega
theorem qa_narJ : ∀ j, j < 15 → (nI j).toInt8.toInt32 = nI j := by decide +kernel
theorem qa_nar {q : Int32} (h0 : ¬ q < 0) (h1 : ¬ 15 ≤ q) : q.toInt8.toInt32 = q := by
  obtain ⟨j, hj, rfl⟩ := nI_of h0
  refine qa_narJ j (Nat.lt_of_not_le (fun z => h1 ?_))
  exact nI_le (a := 15) z hj
/-- the state behind the constructor, behind file, behind spawn, and when its process works -/
abbrev qa_u1 : St2 := (0, 0, 1, (-1), (-1), 0, 0, (fun _ => 0), (upd (upd (upd (fun _ => 0) 0 (-1)) 1 (-1)) 2 (-1)), (fun _ => 0), (fun _ => 0), (upd (fun _ => 0) 0 2), (fun _ => 0), (fun _ => 0), (fun _ => 0), (fun _ => 0), (fun _ => 0), (fun _ => 0), (fun _ => 0), (fun _ => 0), (fun _ => 0), (fun _ => 0), (fun _ => 0), (fun _ => 0), (fun _ => 0), (fun _ => 0), (fun _ => 0), (fun _ => 0), (fun _ => 0), (upd (upd (upd (upd (upd (fun _ => 0) 0 (-1)) 1 (-1)) 2 (-1)) 3 (-1)) 4 (-1)), (fun _ => 0), (fun _ => 0), (fun _ => 0), (fun _ => 0), (fun _ => 0), (fun _ => 0), (fun _ => 0), (fun _ => 0))
abbrev qa_u2 (q w : Int32) : St2 := (1, 1, 1, (-1), (-1), 0, 0, (upd (upd (upd (upd (fun _ => 0) 0 0) 1 0) 2 0) 3 0), (upd (upd (upd (upd (upd (fun _ => 0) 0 (-1)) 1 (-1)) 2 (-1)) 0 (-1)) 0 0), (upd (upd (fun _ => 0) 0 0) 0 1), (upd (upd (upd (upd (upd (fun _ => 0) 0 0) 1 0) 2 0) 3 0) 0 w), (upd (upd (fun _ => 0) 0 2) 1 1), (upd (upd (upd (fun _ => 0) 1 0) 0 1) 1 1), (upd (fun _ => 0) 5 0), (upd (upd (fun _ => 0) 1 0) 1 1), (upd (fun _ => 0) 1 0), (upd (fun _ => 0) 0 q), (upd (fun _ => 0) 0 1), (upd (fun _ => 0) 1 0), (fun _ => 0), (fun _ => 0), (fun _ => 0), (fun _ => 0), (fun _ => 0), (fun _ => 0), (fun _ => 0), (fun _ => 0), (fun _ => 0), (fun _ => 0), (upd (upd (upd (upd (upd (fun _ => 0) 0 (-1)) 1 (-1)) 2 (-1)) 3 (-1)) 4 (-1)), (fun _ => 0), (fun _ => 0), (fun _ => 0), (fun _ => 0), (fun _ => 0), (fun _ => 0), (fun _ => 0), (fun _ => 0))
abbrev qa_u3 (q w : Int32) (g t : Nat → Int32) : St2 := (1, 1, 1, 0, 0, 0, 0, (upd (upd (upd (upd (fun _ => 0) 0 0) 1 0) 2 0) 3 0), (upd (upd (upd (upd (upd (fun _ => 0) 0 (-1)) 1 (-1)) 2 (-1)) 0 (-1)) 0 0), (upd (upd (fun _ => 0) 0 0) 0 1), (upd (upd (upd (upd (upd (fun _ => 0) 0 0) 1 0) 2 0) 3 0) 0 w), (upd (upd (fun _ => 0) 0 2) 1 1), (upd (upd (upd (fun _ => 0) 1 0) 0 1) 1 1), (upd (fun _ => 0) 5 0), (upd (upd (fun _ => 0) 1 0) 1 1), (upd (fun _ => 0) 1 0), (upd (fun _ => 0) 0 q), (upd (fun _ => 0) 0 1), (upd (fun _ => 0) 1 0), (fun _ => 0), (fun _ => 0), (fun _ => 0), (fun _ => 0), (fun _ => 0), (fun _ => 0), (fun _ => 0), (fun _ => 0), (fun _ => 0), (upd (fun _ => 0) 0 1), (upd (upd (upd (upd (upd (upd (fun _ => 0) 0 (-1)) 1 (-1)) 2 (-1)) 3 (-1)) 4 (-1)) 0 (-1)), (upd (fun _ => 0) 0 0), (upd (fun _ => 0) 0 1), (upd (fun _ => 0) 0 w), g, (upd (fun _ => 0) 0 0), t, (upd (fun _ => 0) 0 (-1)), (fun _ => 0))
abbrev qa_u4 (q w : Int32) (g : Nat → Int32) : St2 := (1, 1, 1, (-1), (-1), 0, 0, (upd (upd (upd (upd (fun _ => 0) 0 0) 1 0) 2 0) 3 0), (upd (upd (upd (upd (upd (fun _ => 0) 0 (-1)) 1 (-1)) 2 (-1)) 0 (-1)) 0 0), (upd (upd (fun _ => 0) 0 0) 0 1), (upd (upd (upd (upd (upd (fun _ => 0) 0 0) 1 0) 2 0) 3 0) 0 w), (upd (upd (fun _ => 0) 0 2) 1 1), (upd (upd (upd (fun _ => 0) 1 0) 0 1) 1 1), (upd (fun _ => 0) 5 0), (upd (upd (fun _ => 0) 1 0) 1 1), (upd (fun _ => 0) 1 0), (upd (fun _ => 0) 0 q), (upd (fun _ => 0) 0 1), (upd (fun _ => 0) 1 0), (fun _ => 0), (fun _ => 0), (fun _ => 0), (fun _ => 0), (fun _ => 0), (fun _ => 0), (fun _ => 0), (fun _ => 0), (fun _ => 0), (upd (fun _ => 0) 0 1), (upd (upd (upd (upd (upd (upd (fun _ => 0) 0 (-1)) 1 (-1)) 2 (-1)) 3 (-1)) 4 (-1)) 0 (-1)), (upd (fun _ => 0) 0 0), (upd (fun _ => 0) 0 1), (upd (fun _ => 0) 0 w), g, (upd (fun _ => 0) 0 0), (fun _ => 0), (upd (fun _ => 0) 0 (-1)), (fun _ => 0))
abbrev qa_u4e (q w : Int32) (g : Nat → Int32) : St2 := (1, 1, 1, (-1), (-1), 1, 0, (upd (upd (upd (upd (fun _ => 0) 0 0) 1 0) 2 0) 3 0), (upd (upd (upd (upd (upd (fun _ => 0) 0 (-1)) 1 (-1)) 2 (-1)) 0 (-1)) 0 0), (upd (upd (fun _ => 0) 0 0) 0 1), (upd (upd (upd (upd (upd (fun _ => 0) 0 0) 1 0) 2 0) 3 0) 0 w), (upd (upd (fun _ => 0) 0 2) 1 1), (upd (upd (upd (fun _ => 0) 1 0) 0 1) 1 1), (upd (fun _ => 0) 5 0), (upd (upd (fun _ => 0) 1 0) 1 1), (upd (fun _ => 0) 1 0), (upd (fun _ => 0) 0 q), (upd (fun _ => 0) 0 1), (upd (fun _ => 0) 1 0), (fun _ => 0), (fun _ => 0), (fun _ => 0), (fun _ => 0), (fun _ => 0), (fun _ => 0), (fun _ => 0), (fun _ => 0), (fun _ => 0), (upd (fun _ => 0) 0 1), (upd (upd (upd (upd (upd (upd (fun _ => 0) 0 (-1)) 1 (-1)) 2 (-1)) 3 (-1)) 4 (-1)) 0 (-1)), (upd (fun _ => 0) 0 0), (upd (fun _ => 0) 0 1), (upd (fun _ => 0) 0 w), g, (upd (fun _ => 0) 0 0), (fun _ => 0), (upd (fun _ => 0) 0 (-1)), (fun _ => 0))
/-- what is seen of a state from outside -/
def qa_obs (st : Int32) (ex : Int64) (p0 pl : Int32) (u : St2) : Prop := match u with
  | (ub, nk, lv, fq, lq, ec, pc, a1, a2, a3, a4, a5, a6, a7, a8, a9, a10, a11, a12, a13, a14, a15, a16, a17, a18, a19, a20, a21, a22, a23, a24, a25, a26, a27, a28, a29, a30, a31) => a22 0 = st ∧ ec = ex ∧ pc = p0 ∧ a31 0 = pl
def qa_fin (st : Int32) (ex : Int64) (p0 pl : Int32) (u : St2) : Prop := match u with
  | (ub, nk, lv, fq, lq, ec, pc, a1, a2, a3, a4, a5, a6, a7, a8, a9, a10, a11, a12, a13, a14, a15, a16, a17, a18, a19, a20, a21, a22, a23, a24, a25, a26, a27, a28, a29, a30, a31) => a22 0 = st ∧ ec = ex ∧ pc = p0 ∧ a31 0 = pl ∧ (st = 1 → lq < 0)
/-- behind an instruction that neither ends nor jumps back: the next round of work ends the process -/
def qa_mid (p0 pl : Int32) (u : St2) : Prop := match u with
  | (ub, nk, lv, fq, lq, ec, pc, a1, a2, a3, a4, a5, a6, a7, a8, a9, a10, a11, a12, a13, a14, a15, a16, a17, a18, a19, a20, a21, a22, a23, a24, a25, a26, a27, a28, a29, a30, a31) => fq < 0 ∧ a22 0 = 1 ∧ a22 1 = 0 ∧ a22 2 = 0 ∧ a22 3 = 0 ∧ a22 4 = 0 ∧ a23 0 = -1 ∧ a29 0 = 0 ∧ a29 1 = 0 ∧ a29 2 = 0 ∧ a29 3 = 0 ∧ (a24 0 < 0 ∨ ¬ a24 0 < a25 0) ∧ ec = 1 ∧ pc = p0 ∧ a31 0 = pl
end
section
theorem qa_init {post : St2 → Prop} (H : post qa_u1) : wpX_init post 31 680 (0, 0, 0, 0, 0, 0, 0) := by
  repeat (first
    | refine nm_e ?_
    | refine qa_v rfl ?_
    | refine qa_t rfl ?_
    | refine qa_f rfl ?_
    | refine qa_d rfl ?_
    | refine Exists.intro 30 ?_)
  exact H
theorem qa_fileG {post : Int32 → St2 → Prop} {q w : Int32} (h0 : ¬ q < 0) (h1 : ¬ 15 ≤ q) (H : post 1 (qa_u2 q w)) : wpX_file post qa_u1 q 0 w := by
  rw [← qa_nar h0 h1] at H
  repeat (first
    | refine nm_e ?_
    | refine qa_v rfl ?_
    | refine br_f h0 ?_
    | refine br_f h1 ?_
    | refine qa_t rfl ?_
    | refine qa_f rfl ?_
    | refine qa_d rfl ?_
    | refine Exists.intro 30 ?_)
  exact H
theorem qa_fileB {post : Int32 → St2 → Prop} {q i w : Int32} (hb : q < 0 ∨ 14 < q ∨ ¬ i = 0) (H : post (-1000000) qa_u1) : wpX_file post qa_u1 q i w := by
  by_cases h0 : q < 0
  · repeat (first
      | refine nm_e ?_
      | refine qa_v rfl ?_
      | refine br_t h0 ?_
      | refine qa_t rfl ?_
      | refine qa_f rfl ?_
      | refine qa_d rfl ?_
      | refine Exists.intro 30 ?_)
    exact H
  by_cases h1 : 15 ≤ q
  · repeat (first
      | refine nm_e ?_
      | refine qa_v rfl ?_
      | refine br_f h0 ?_
      | refine br_t h1 ?_
      | refine qa_t rfl ?_
      | refine qa_f rfl ?_
      | refine qa_d rfl ?_
      | refine Exists.intro 30 ?_)
    exact H
  by_cases h2 : i < 0
  · repeat (first
      | refine nm_e ?_
      | refine qa_v rfl ?_
      | refine br_f h0 ?_
      | refine br_f h1 ?_
      | refine br_t h2 ?_
      | refine qa_t rfl ?_
      | refine qa_f rfl ?_
      | refine qa_d rfl ?_
      | refine Exists.intro 30 ?_)
    exact H
  have h3 : ¬ i ≤ 0 := qa_le0 h2 (hb.elim (fun z => absurd z h0) (fun z => z.elim (fun z => absurd (qa_15 z) h1) id))
  by_cases h4 : i < 20
  · repeat (first
      | refine nm_e ?_
      | refine qa_v rfl ?_
      | refine br_f h0 ?_
      | refine br_f h1 ?_
      | refine br_f h2 ?_
      | refine br_t h4 ?_
      | refine br_f h3 ?_
      | refine qa_t rfl ?_
      | refine qa_f rfl ?_
      | refine qa_d rfl ?_
      | refine Exists.intro 30 ?_)
    exact H
  repeat (first
    | refine nm_e ?_
    | refine qa_v rfl ?_
    | refine br_f h0 ?_
    | refine br_f h1 ?_
    | refine br_f h2 ?_
    | refine br_f h4 ?_
    | refine qa_t rfl ?_
    | refine qa_f rfl ?_
    | refine qa_d rfl ?_
    | refine Exists.intro 30 ?_)
  exact H
end
section
theorem qa_spawn1 {post : Int32 → St2 → Prop} {p x : Int32} (H : post (-1000000) qa_u1) : wpX_spawn post qa_u1 p x := by
  by_cases h0 : p < 0
  · repeat (first
      | refine nm_e ?_
      | refine qa_v rfl ?_
      | refine br_t h0 ?_
      | refine qa_t rfl ?_
      | refine qa_f rfl ?_
      | refine qa_d rfl ?_
      | refine Exists.intro 30 ?_)
    exact H
  by_cases h1 : 15 ≤ p
  · repeat (first
      | refine nm_e ?_
      | refine qa_v rfl ?_
      | refine br_f h0 ?_
      | refine br_t h1 ?_
      | refine qa_t rfl ?_
      | refine qa_f rfl ?_
      | refine qa_d rfl ?_
      | refine Exists.intro 30 ?_)
    exact H
  · repeat (first
      | refine nm_e ?_
      | refine qa_v rfl ?_
      | refine br_f h0 ?_
      | refine br_f h1 ?_
      | refine qa_t rfl ?_
      | refine qa_f rfl ?_
      | refine qa_d rfl ?_
      | refine Exists.intro 30 ?_)
    exact H
theorem qa_spawn2 {post : Int32 → St2 → Prop} {q w p x : Int32} (hq : ¬ q = p) (H : post (-1000000) (qa_u2 q w)) : wpX_spawn post (qa_u2 q w) p x := by
  by_cases h0 : p < 0
  · repeat (first
      | refine nm_e ?_
      | refine qa_v rfl ?_
      | refine br_t h0 ?_
      | refine qa_t rfl ?_
      | refine qa_f rfl ?_
      | refine qa_d rfl ?_
      | refine Exists.intro 30 ?_)
    exact H
  by_cases h1 : 15 ≤ p
  · repeat (first
      | refine nm_e ?_
      | refine qa_v rfl ?_
      | refine br_f h0 ?_
      | refine br_t h1 ?_
      | refine qa_t rfl ?_
      | refine qa_f rfl ?_
      | refine qa_d rfl ?_
      | refine Exists.intro 30 ?_)
    exact H
  · repeat (first
      | refine nm_e ?_
      | refine qa_v rfl ?_
      | refine br_f h0 ?_
      | refine br_f h1 ?_
      | refine br_f hq ?_
      | refine qa_t rfl ?_
      | refine qa_f rfl ?_
      | refine qa_d rfl ?_
      | refine Exists.intro 30 ?_)
    exact H
theorem qa_spawn3 {post : Int32 → St2 → Prop} {q w x : Int32} (h0 : ¬ q < 0) (h1 : ¬ 15 ≤ q) (H : ∀ g t : Nat → Int32, g 0 = x → g 1 = 0 → g 2 = 0 → g 3 = 0 → t = (fun _ => 0) → post 0 (qa_u3 q w g t)) : wpX_spawn post (qa_u2 q w) q x := by
  have hq : q = q := rfl
  repeat (first
    | refine nm_e ?_
    | refine qa_v rfl ?_
    | refine br_f h0 ?_
    | refine br_f h1 ?_
    | refine br_t hq ?_
    | refine qa_t rfl ?_
    | refine qa_f rfl ?_
    | refine qa_d rfl ?_
    | refine Exists.intro 30 ?_)
  exact H _ _ rfl rfl rfl rfl (by simp only [qa_z])
theorem qa_run1 {post : Int32 → St2 → Prop} (H : post 0 qa_u1) : wpX_run post qa_u1 1 := by
  repeat (first
    | refine nm_e ?_
    | refine qa_v rfl ?_
    | refine qa_t rfl ?_
    | refine qa_f rfl ?_
    | refine qa_d rfl ?_
    | refine Exists.intro 30 ?_)
  exact H
theorem qa_run2 {post : Int32 → St2 → Prop} {q w : Int32} (H : post 0 (qa_u2 q w)) : wpX_run post (qa_u2 q w) 1 := by
  repeat (first
    | refine nm_e ?_
    | refine qa_v rfl ?_
    | refine qa_t rfl ?_
    | refine qa_f rfl ?_
    | refine qa_d rfl ?_
    | refine Exists.intro 30 ?_)
  exact H
theorem qa_run3 {post : Int32 → St2 → Prop} {q w : Int32} {g : Nat → Int32} {st : Int32} {ex : Int64} {p0 pl : Int32} (hst : st = 0 ∨ st = 1) (W : ∀ Q : St2 → Prop, (∀ u, qa_fin st ex p0 pl u → Q u) → wpX_work Q (qa_u4 q w g) 0) (H : ∀ u, qa_obs st ex p0 pl u → post 1 u) : wpX_run post (qa_u3 q w g (fun _ => 0)) 1 := by
  repeat (first
    | refine W _ ?_
    | refine nm_e ?_
    | refine qa_v rfl ?_
    | refine qa_t rfl ?_
    | refine qa_f rfl ?_
    | refine qa_d rfl ?_
    | refine Exists.intro 30 ?_)
  intro u hu
  obtain ⟨ub, nk, lv, fq, lq, ec, pc, a1, a2, a3, a4, a5, a6, a7, a8, a9, a10, a11, a12, a13, a14, a15, a16, a17, a18, a19, a20, a21, a22, a23, a24, a25, a26, a27, a28, a29, a30, a31⟩ := u
  obtain ⟨e1, e2, e3, e4, e5⟩ := hu
  rcases hst with rfl | rfl
  · have n1 : ¬ a22 0 = 1 := by
      rw [e1]
      decide
    repeat (first
      | refine nm_e ?_
      | refine qa_v rfl ?_
      | refine br_f n1 ?_
      | refine qa_t rfl ?_
      | refine qa_f rfl ?_
      | refine qa_d rfl ?_
      | refine Exists.intro 30 ?_)
    exact H _ ⟨e1, e2, e3, e4⟩
  · have l1 := e5 rfl
    repeat (first
      | refine nm_e ?_
      | refine qa_v rfl ?_
      | refine br_t e1 ?_
      | refine br_t l1 ?_
      | refine qa_t rfl ?_
      | refine qa_f rfl ?_
      | refine qa_d rfl ?_
      | refine Exists.intro 30 ?_)
    exact H _ ⟨e1, e2, e3, e4⟩
end
section
theorem qa_in4 {Y : Int32} (h0 : ¬ Y < 0) (h1 : Y ≤ 3) : vp_in (4 * 0 + Y) 20 := by
  obtain ⟨j, hj, rfl⟩ := nI_of2 (M := 3) (n := 3) (by decide) h0 h1
  have e : (4 * 0 + nI j : Int32) = nI j := by grind
  rw [e]
  exact vp_in_nI (by omega) (by decide)
theorem qa_e1 {Q : St2 → Prop} {q w A B N X Y : Int32} {g : Nat → Int32} (hA : vp_in (4 * 0 + A) 20) (hB : vp_in (4 * 0 + B) 20) (ha : (w >>> ((5 : Int32) &&& 31)) &&& 3 = A) (hb : (w >>> ((7 : Int32) &&& 31)) &&& 3 = B) (hn : w >>> ((9 : Int32) &&& 31) = N) (hX : g (4 * 0 + A).toNatClampNeg = X) (hY : g (4 * 0 + B).toNatClampNeg = Y) (ho : w &&& 31 = 1) (HQ : ∀ u, qa_mid 0 0 u → Q u) : wpX_execute Q (qa_u4e q w g) 0 w := by
  repeat (first
    | refine nm_r ho ?_
    | refine nm_r ha ?_
    | refine nm_r hb ?_
    | refine nm_r hn ?_
    | refine nm_r hX ?_
    | refine nm_r hY ?_
    | refine nm_e ?_
    | refine qa_v rfl ?_
    | refine And.intro hA ?_
    | refine And.intro hB ?_
    | refine qa_t rfl ?_
    | refine qa_f rfl ?_
    | refine qa_d rfl ?_
    | refine Exists.intro 30 ?_)
  exact HQ _ ⟨by decide, rfl, rfl, rfl, rfl, rfl, rfl, rfl, rfl, rfl, rfl, Or.inr (of_decide_eq_false rfl), rfl, rfl, rfl⟩
theorem qa_e2 {Q : St2 → Prop} {q w A B N X Y : Int32} {g : Nat → Int32} (hA : vp_in (4 * 0 + A) 20) (hB : vp_in (4 * 0 + B) 20) (ha : (w >>> ((5 : Int32) &&& 31)) &&& 3 = A) (hb : (w >>> ((7 : Int32) &&& 31)) &&& 3 = B) (hn : w >>> ((9 : Int32) &&& 31) = N) (hX : g (4 * 0 + A).toNatClampNeg = X) (hY : g (4 * 0 + B).toNatClampNeg = Y) (ho : w &&& 31 = 2) (HQ : ∀ u, qa_mid 0 0 u → Q u) : wpX_execute Q (qa_u4e q w g) 0 w := by
  repeat (first
    | refine nm_r ho ?_
    | refine nm_r ha ?_
    | refine nm_r hb ?_
    | refine nm_r hn ?_
    | refine nm_r hX ?_
    | refine nm_r hY ?_
    | refine nm_e ?_
    | refine qa_v rfl ?_
    | refine And.intro hA ?_
    | refine And.intro hB ?_
    | refine qa_t rfl ?_
    | refine qa_f rfl ?_
    | refine qa_d rfl ?_
    | refine Exists.intro 30 ?_)
  exact HQ _ ⟨by decide, rfl, rfl, rfl, rfl, rfl, rfl, rfl, rfl, rfl, rfl, Or.inr (of_decide_eq_false rfl), rfl, rfl, rfl⟩
theorem qa_e3 {Q : St2 → Prop} {q w A B N X Y : Int32} {g : Nat → Int32} (hA : vp_in (4 * 0 + A) 20) (hB : vp_in (4 * 0 + B) 20) (ha : (w >>> ((5 : Int32) &&& 31)) &&& 3 = A) (hb : (w >>> ((7 : Int32) &&& 31)) &&& 3 = B) (hn : w >>> ((9 : Int32) &&& 31) = N) (hX : g (4 * 0 + A).toNatClampNeg = X) (hY : g (4 * 0 + B).toNatClampNeg = Y) (ho : w &&& 31 = 3) (HQ : ∀ u, qa_mid 0 0 u → Q u) : wpX_execute Q (qa_u4e q w g) 0 w := by
  repeat (first
    | refine nm_r ho ?_
    | refine nm_r ha ?_
    | refine nm_r hb ?_
    | refine nm_r hn ?_
    | refine nm_r hX ?_
    | refine nm_r hY ?_
    | refine nm_e ?_
    | refine qa_v rfl ?_
    | refine And.intro hA ?_
    | refine And.intro hB ?_
    | refine qa_t rfl ?_
    | refine qa_f rfl ?_
    | refine qa_d rfl ?_
    | refine Exists.intro 30 ?_)
  exact HQ _ ⟨by decide, rfl, rfl, rfl, rfl, rfl, rfl, rfl, rfl, rfl, rfl, Or.inr (of_decide_eq_false rfl), rfl, rfl, rfl⟩
theorem qa_e4 {Q : St2 → Prop} {q w A B N X Y : Int32} {g : Nat → Int32} (hA : vp_in (4 * 0 + A) 20) (hB : vp_in (4 * 0 + B) 20) (ha : (w >>> ((5 : Int32) &&& 31)) &&& 3 = A) (hb : (w >>> ((7 : Int32) &&& 31)) &&& 3 = B) (hn : w >>> ((9 : Int32) &&& 31) = N) (hX : g (4 * 0 + A).toNatClampNeg = X) (hY : g (4 * 0 + B).toNatClampNeg = Y) (ho : w &&& 31 = 4) (HQ : ∀ u, qa_mid 0 0 u → Q u) : wpX_execute Q (qa_u4e q w g) 0 w := by
  repeat (first
    | refine nm_r ho ?_
    | refine nm_r ha ?_
    | refine nm_r hb ?_
    | refine nm_r hn ?_
    | refine nm_r hX ?_
    | refine nm_r hY ?_
    | refine nm_e ?_
    | refine qa_v rfl ?_
    | refine And.intro hA ?_
    | refine And.intro hB ?_
    | refine qa_t rfl ?_
    | refine qa_f rfl ?_
    | refine qa_d rfl ?_
    | refine Exists.intro 30 ?_)
  exact HQ _ ⟨by decide, rfl, rfl, rfl, rfl, rfl, rfl, rfl, rfl, rfl, rfl, Or.inr (of_decide_eq_false rfl), rfl, rfl, rfl⟩
theorem qa_e5 {Q : St2 → Prop} {q w A B N X Y : Int32} {g : Nat → Int32} (hA : vp_in (4 * 0 + A) 20) (hB : vp_in (4 * 0 + B) 20) (ha : (w >>> ((5 : Int32) &&& 31)) &&& 3 = A) (hb : (w >>> ((7 : Int32) &&& 31)) &&& 3 = B) (hn : w >>> ((9 : Int32) &&& 31) = N) (hX : g (4 * 0 + A).toNatClampNeg = X) (hY : g (4 * 0 + B).toNatClampNeg = Y) (ho : w &&& 31 = 5) (HQ : ∀ u, qa_mid 0 0 u → Q u) : wpX_execute Q (qa_u4e q w g) 0 w := by
  repeat (first
    | refine nm_r ho ?_
    | refine nm_r ha ?_
    | refine nm_r hb ?_
    | refine nm_r hn ?_
    | refine nm_r hX ?_
    | refine nm_r hY ?_
    | refine nm_e ?_
    | refine qa_v rfl ?_
    | refine And.intro hA ?_
    | refine And.intro hB ?_
    | refine qa_t rfl ?_
    | refine qa_f rfl ?_
    | refine qa_d rfl ?_
    | refine Exists.intro 30 ?_)
  exact HQ _ ⟨by decide, rfl, rfl, rfl, rfl, rfl, rfl, rfl, rfl, rfl, rfl, Or.inr (of_decide_eq_false rfl), rfl, rfl, rfl⟩
theorem qa_e6 {Q : St2 → Prop} {q w A B N X Y : Int32} {g : Nat → Int32} (hA : vp_in (4 * 0 + A) 20) (hB : vp_in (4 * 0 + B) 20) (ha : (w >>> ((5 : Int32) &&& 31)) &&& 3 = A) (hb : (w >>> ((7 : Int32) &&& 31)) &&& 3 = B) (hn : w >>> ((9 : Int32) &&& 31) = N) (hX : g (4 * 0 + A).toNatClampNeg = X) (hY : g (4 * 0 + B).toNatClampNeg = Y) (ho : w &&& 31 = 6) (HQ : ∀ u, qa_mid 0 0 u → Q u) : wpX_execute Q (qa_u4e q w g) 0 w := by
  by_cases y0 : Y ≤ X
  · repeat (first
      | refine nm_r ho ?_
      | refine nm_r ha ?_
      | refine nm_r hb ?_
      | refine nm_r hn ?_
      | refine nm_r hX ?_
      | refine nm_r hY ?_
      | refine nm_e ?_
      | refine qa_v rfl ?_
      | refine And.intro hA ?_
      | refine And.intro hB ?_
      | refine br_t y0 ?_
      | refine qa_t rfl ?_
      | refine qa_f rfl ?_
      | refine qa_d rfl ?_
      | refine Exists.intro 30 ?_)
    exact HQ _ ⟨by decide, rfl, rfl, rfl, rfl, rfl, rfl, rfl, rfl, rfl, rfl, Or.inr (of_decide_eq_false rfl), rfl, rfl, rfl⟩
  · repeat (first
      | refine nm_r ho ?_
      | refine nm_r ha ?_
      | refine nm_r hb ?_
      | refine nm_r hn ?_
      | refine nm_r hX ?_
      | refine nm_r hY ?_
      | refine nm_e ?_
      | refine qa_v rfl ?_
      | refine And.intro hA ?_
      | refine And.intro hB ?_
      | refine br_f y0 ?_
      | refine qa_t rfl ?_
      | refine qa_f rfl ?_
      | refine qa_d rfl ?_
      | refine Exists.intro 30 ?_)
    exact HQ _ ⟨by decide, rfl, rfl, rfl, rfl, rfl, rfl, rfl, rfl, rfl, rfl, Or.inr (of_decide_eq_false rfl), rfl, rfl, rfl⟩
theorem qa_e7 {Q : St2 → Prop} {q w A B N X Y : Int32} {g : Nat → Int32} (hA : vp_in (4 * 0 + A) 20) (hB : vp_in (4 * 0 + B) 20) (ha : (w >>> ((5 : Int32) &&& 31)) &&& 3 = A) (hb : (w >>> ((7 : Int32) &&& 31)) &&& 3 = B) (hn : w >>> ((9 : Int32) &&& 31) = N) (hX : g (4 * 0 + A).toNatClampNeg = X) (hY : g (4 * 0 + B).toNatClampNeg = Y) (ho : w &&& 31 = 7) (hN : X = 0 → (N < 0 ∨ ¬ N < 1)) (HQ : ∀ u, qa_mid 0 0 u → Q u) : wpX_execute Q (qa_u4e q w g) 0 w := by
  by_cases x0 : X = 0
  · repeat (first
      | refine nm_r ho ?_
      | refine nm_r ha ?_
      | refine nm_r hb ?_
      | refine nm_r hn ?_
      | refine nm_r hX ?_
      | refine nm_r hY ?_
      | refine nm_e ?_
      | refine qa_v rfl ?_
      | refine And.intro hA ?_
      | refine And.intro hB ?_
      | refine br_t x0 ?_
      | refine qa_t rfl ?_
      | refine qa_f rfl ?_
      | refine qa_d rfl ?_
      | refine Exists.intro 30 ?_)
    exact HQ _ ⟨by decide, rfl, rfl, rfl, rfl, rfl, rfl, rfl, rfl, rfl, rfl, hN x0, rfl, rfl, rfl⟩
  · repeat (first
      | refine nm_r ho ?_
      | refine nm_r ha ?_
      | refine nm_r hb ?_
      | refine nm_r hn ?_
      | refine nm_r hX ?_
      | refine nm_r hY ?_
      | refine nm_e ?_
      | refine qa_v rfl ?_
      | refine And.intro hA ?_
      | refine And.intro hB ?_
      | refine br_f x0 ?_
      | refine qa_t rfl ?_
      | refine qa_f rfl ?_
      | refine qa_d rfl ?_
      | refine Exists.intro 30 ?_)
    exact HQ _ ⟨by decide, rfl, rfl, rfl, rfl, rfl, rfl, rfl, rfl, rfl, rfl, Or.inr (of_decide_eq_false rfl), rfl, rfl, rfl⟩
theorem qa_e8 {Q : St2 → Prop} {q w A B N X Y : Int32} {g : Nat → Int32} (hA : vp_in (4 * 0 + A) 20) (hB : vp_in (4 * 0 + B) 20) (ha : (w >>> ((5 : Int32) &&& 31)) &&& 3 = A) (hb : (w >>> ((7 : Int32) &&& 31)) &&& 3 = B) (hn : w >>> ((9 : Int32) &&& 31) = N) (hX : g (4 * 0 + A).toNatClampNeg = X) (hY : g (4 * 0 + B).toNatClampNeg = Y) (ho : w &&& 31 = 8) (hN : N < 0 ∨ ¬ N < 1) (HQ : ∀ u, qa_mid 0 0 u → Q u) : wpX_execute Q (qa_u4e q w g) 0 w := by
  repeat (first
    | refine nm_r ho ?_
    | refine nm_r ha ?_
    | refine nm_r hb ?_
    | refine nm_r hn ?_
    | refine nm_r hX ?_
    | refine nm_r hY ?_
    | refine nm_e ?_
    | refine qa_v rfl ?_
    | refine And.intro hA ?_
    | refine And.intro hB ?_
    | refine qa_t rfl ?_
    | refine qa_f rfl ?_
    | refine qa_d rfl ?_
    | refine Exists.intro 30 ?_)
  exact HQ _ ⟨by decide, rfl, rfl, rfl, rfl, rfl, rfl, rfl, rfl, rfl, rfl, hN, rfl, rfl, rfl⟩
theorem qa_e9 {Q : St2 → Prop} {q w A B N X Y : Int32} {g : Nat → Int32} (hA : vp_in (4 * 0 + A) 20) (hB : vp_in (4 * 0 + B) 20) (ha : (w >>> ((5 : Int32) &&& 31)) &&& 3 = A) (hb : (w >>> ((7 : Int32) &&& 31)) &&& 3 = B) (hn : w >>> ((9 : Int32) &&& 31) = N) (hX : g (4 * 0 + A).toNatClampNeg = X) (hY : g (4 * 0 + B).toNatClampNeg = Y) (ho : w &&& 31 = 9) (hN : ¬ X = 0 → (N < 0 ∨ ¬ N < 1)) (HQ : ∀ u, qa_mid 0 0 u → Q u) : wpX_execute Q (qa_u4e q w g) 0 w := by
  by_cases x0 : X = 0
  · repeat (first
      | refine nm_r ho ?_
      | refine nm_r ha ?_
      | refine nm_r hb ?_
      | refine nm_r hn ?_
      | refine nm_r hX ?_
      | refine nm_r hY ?_
      | refine nm_e ?_
      | refine qa_v rfl ?_
      | refine And.intro hA ?_
      | refine And.intro hB ?_
      | refine br_t x0 ?_
      | refine qa_t rfl ?_
      | refine qa_f rfl ?_
      | refine qa_d rfl ?_
      | refine Exists.intro 30 ?_)
    exact HQ _ ⟨by decide, rfl, rfl, rfl, rfl, rfl, rfl, rfl, rfl, rfl, rfl, Or.inr (of_decide_eq_false rfl), rfl, rfl, rfl⟩
  · repeat (first
      | refine nm_r ho ?_
      | refine nm_r ha ?_
      | refine nm_r hb ?_
      | refine nm_r hn ?_
      | refine nm_r hX ?_
      | refine nm_r hY ?_
      | refine nm_e ?_
      | refine qa_v rfl ?_
      | refine And.intro hA ?_
      | refine And.intro hB ?_
      | refine br_f x0 ?_
      | refine qa_t rfl ?_
      | refine qa_f rfl ?_
      | refine qa_d rfl ?_
      | refine Exists.intro 30 ?_)
    exact HQ _ ⟨by decide, rfl, rfl, rfl, rfl, rfl, rfl, rfl, rfl, rfl, rfl, hN x0, rfl, rfl, rfl⟩
end
section
theorem qa_e11 {Q : St2 → Prop} {q w A B N X Y : Int32} {g : Nat → Int32} (hA : vp_in (4 * 0 + A) 20) (hB : vp_in (4 * 0 + B) 20) (ha : (w >>> ((5 : Int32) &&& 31)) &&& 3 = A) (hb : (w >>> ((7 : Int32) &&& 31)) &&& 3 = B) (hn : w >>> ((9 : Int32) &&& 31) = N) (hX : g (4 * 0 + A).toNatClampNeg = X) (hY : g (4 * 0 + B).toNatClampNeg = Y) (ho : w &&& 31 = 11) (HQ : ∀ u, qa_mid 0 0 u → Q u) : wpX_execute Q (qa_u4e q w g) 0 w := by
  repeat (first
    | refine nm_r ho ?_
    | refine nm_r ha ?_
    | refine nm_r hb ?_
    | refine nm_r hn ?_
    | refine nm_r hX ?_
    | refine nm_r hY ?_
    | refine nm_e ?_
    | refine qa_v rfl ?_
    | refine And.intro hA ?_
    | refine And.intro hB ?_
    | refine qa_t rfl ?_
    | refine qa_f rfl ?_
    | refine qa_d rfl ?_
    | refine Exists.intro 30 ?_)
  exact HQ _ ⟨by decide, rfl, rfl, rfl, rfl, rfl, rfl, rfl, rfl, rfl, rfl, Or.inr (of_decide_eq_false rfl), rfl, rfl, rfl⟩
theorem qa_e12 {Q : St2 → Prop} {q w A B N X Y : Int32} {g : Nat → Int32} (hA : vp_in (4 * 0 + A) 20) (hB : vp_in (4 * 0 + B) 20) (ha : (w >>> ((5 : Int32) &&& 31)) &&& 3 = A) (hb : (w >>> ((7 : Int32) &&& 31)) &&& 3 = B) (hn : w >>> ((9 : Int32) &&& 31) = N) (hX : g (4 * 0 + A).toNatClampNeg = X) (hY : g (4 * 0 + B).toNatClampNeg = Y) (ho : w &&& 31 = 12) (xq : ¬ q = X) (HQ : ∀ u, qa_mid 0 0 u → Q u) : wpX_execute Q (qa_u4e q w g) 0 w := by
  by_cases x0 : X < 0
  · repeat (first
      | refine nm_r ho ?_
      | refine nm_r ha ?_
      | refine nm_r hb ?_
      | refine nm_r hn ?_
      | refine nm_r hX ?_
      | refine nm_r hY ?_
      | refine nm_e ?_
      | refine qa_v rfl ?_
      | refine And.intro hA ?_
      | refine And.intro hB ?_
      | refine br_t x0 ?_
      | refine qa_t rfl ?_
      | refine qa_f rfl ?_
      | refine qa_d rfl ?_
      | refine Exists.intro 30 ?_)
    exact HQ _ ⟨by decide, rfl, rfl, rfl, rfl, rfl, rfl, rfl, rfl, rfl, rfl, Or.inr (of_decide_eq_false rfl), rfl, rfl, rfl⟩
  · by_cases x1 : 15 ≤ X
    · repeat (first
        | refine nm_r ho ?_
        | refine nm_r ha ?_
        | refine nm_r hb ?_
        | refine nm_r hn ?_
        | refine nm_r hX ?_
        | refine nm_r hY ?_
        | refine nm_e ?_
        | refine qa_v rfl ?_
        | refine And.intro hA ?_
        | refine And.intro hB ?_
        | refine br_f x0 ?_
        | refine br_t x1 ?_
        | refine qa_t rfl ?_
        | refine qa_f rfl ?_
        | refine qa_d rfl ?_
        | refine Exists.intro 30 ?_)
      exact HQ _ ⟨by decide, rfl, rfl, rfl, rfl, rfl, rfl, rfl, rfl, rfl, rfl, Or.inr (of_decide_eq_false rfl), rfl, rfl, rfl⟩
    · repeat (first
        | refine nm_r ho ?_
        | refine nm_r ha ?_
        | refine nm_r hb ?_
        | refine nm_r hn ?_
        | refine nm_r hX ?_
        | refine nm_r hY ?_
        | refine nm_e ?_
        | refine qa_v rfl ?_
        | refine And.intro hA ?_
        | refine And.intro hB ?_
        | refine br_f x0 ?_
        | refine br_f x1 ?_
        | refine br_f xq ?_
        | refine qa_t rfl ?_
        | refine qa_f rfl ?_
        | refine qa_d rfl ?_
        | refine Exists.intro 30 ?_)
      exact HQ _ ⟨by decide, rfl, rfl, rfl, rfl, rfl, rfl, rfl, rfl, rfl, rfl, Or.inr (of_decide_eq_false rfl), rfl, rfl, rfl⟩
theorem qa_e14 {Q : St2 → Prop} {q w A B N X Y : Int32} {g : Nat → Int32} (hA : vp_in (4 * 0 + A) 20) (hB : vp_in (4 * 0 + B) 20) (ha : (w >>> ((5 : Int32) &&& 31)) &&& 3 = A) (hb : (w >>> ((7 : Int32) &&& 31)) &&& 3 = B) (hn : w >>> ((9 : Int32) &&& 31) = N) (hX : g (4 * 0 + A).toNatClampNeg = X) (hY : g (4 * 0 + B).toNatClampNeg = Y) (ho : w &&& 31 = 14) (HQ : ∀ u, qa_mid 0 0 u → Q u) : wpX_execute Q (qa_u4e q w g) 0 w := by
  by_cases y0 : Y < 0
  · repeat (first
      | refine nm_r ho ?_
      | refine nm_r ha ?_
      | refine nm_r hb ?_
      | refine nm_r hn ?_
      | refine nm_r hX ?_
      | refine nm_r hY ?_
      | refine nm_e ?_
      | refine qa_v rfl ?_
      | refine And.intro hA ?_
      | refine And.intro hB ?_
      | refine br_t y0 ?_
      | refine qa_t rfl ?_
      | refine qa_f rfl ?_
      | refine qa_d rfl ?_
      | refine Exists.intro 30 ?_)
    exact HQ _ ⟨by decide, rfl, rfl, rfl, rfl, rfl, rfl, rfl, rfl, rfl, rfl, Or.inr (of_decide_eq_false rfl), rfl, rfl, rfl⟩
  · by_cases y1 : Y ≤ 3
    · have hV := qa_in4 y0 y1
      repeat (first
        | refine nm_r ho ?_
        | refine nm_r ha ?_
        | refine nm_r hb ?_
        | refine nm_r hn ?_
        | refine nm_r hX ?_
        | refine nm_r hY ?_
        | refine nm_e ?_
        | refine qa_v rfl ?_
        | refine And.intro hA ?_
        | refine And.intro hB ?_
        | refine And.intro hV ?_
        | refine br_f y0 ?_
        | refine br_t y1 ?_
        | refine qa_t rfl ?_
        | refine qa_f rfl ?_
        | refine qa_d rfl ?_
        | refine Exists.intro 30 ?_)
      exact HQ _ ⟨by decide, rfl, rfl, rfl, rfl, rfl, rfl, rfl, rfl, rfl, rfl, Or.inr (of_decide_eq_false rfl), rfl, rfl, rfl⟩
    · repeat (first
        | refine nm_r ho ?_
        | refine nm_r ha ?_
        | refine nm_r hb ?_
        | refine nm_r hn ?_
        | refine nm_r hX ?_
        | refine nm_r hY ?_
        | refine nm_e ?_
        | refine qa_v rfl ?_
        | refine And.intro hA ?_
        | refine And.intro hB ?_
        | refine br_f y0 ?_
        | refine br_f y1 ?_
        | refine qa_t rfl ?_
        | refine qa_f rfl ?_
        | refine qa_d rfl ?_
        | refine Exists.intro 30 ?_)
      exact HQ _ ⟨by decide, rfl, rfl, rfl, rfl, rfl, rfl, rfl, rfl, rfl, rfl, Or.inr (of_decide_eq_false rfl), rfl, rfl, rfl⟩
theorem qa_e15 {Q : St2 → Prop} {q w A B N X Y : Int32} {g : Nat → Int32} (hA : vp_in (4 * 0 + A) 20) (hB : vp_in (4 * 0 + B) 20) (ha : (w >>> ((5 : Int32) &&& 31)) &&& 3 = A) (hb : (w >>> ((7 : Int32) &&& 31)) &&& 3 = B) (hn : w >>> ((9 : Int32) &&& 31) = N) (hX : g (4 * 0 + A).toNatClampNeg = X) (hY : g (4 * 0 + B).toNatClampNeg = Y) (ho : w &&& 31 = 15) (HQ : ∀ u, qa_mid 0 0 u → Q u) : wpX_execute Q (qa_u4e q w g) 0 w := by
  by_cases y0 : Y < 0
  · repeat (first
      | refine nm_r ho ?_
      | refine nm_r ha ?_
      | refine nm_r hb ?_
      | refine nm_r hn ?_
      | refine nm_r hX ?_
      | refine nm_r hY ?_
      | refine nm_e ?_
      | refine qa_v rfl ?_
      | refine And.intro hA ?_
      | refine And.intro hB ?_
      | refine br_t y0 ?_
      | refine qa_t rfl ?_
      | refine qa_f rfl ?_
      | refine qa_d rfl ?_
      | refine Exists.intro 30 ?_)
    exact HQ _ ⟨by decide, rfl, rfl, rfl, rfl, rfl, rfl, rfl, rfl, rfl, rfl, Or.inr (of_decide_eq_false rfl), rfl, rfl, rfl⟩
  · by_cases y1 : Y ≤ 3
    · have hV := qa_in4 y0 y1
      repeat (first
        | refine nm_r ho ?_
        | refine nm_r ha ?_
        | refine nm_r hb ?_
        | refine nm_r hn ?_
        | refine nm_r hX ?_
        | refine nm_r hY ?_
        | refine nm_e ?_
        | refine qa_v rfl ?_
        | refine And.intro hA ?_
        | refine And.intro hB ?_
        | refine And.intro hV ?_
        | refine br_f y0 ?_
        | refine br_t y1 ?_
        | refine qa_t rfl ?_
        | refine qa_f rfl ?_
        | refine qa_d rfl ?_
        | refine Exists.intro 30 ?_)
      exact HQ _ ⟨by decide, rfl, rfl, rfl, rfl, rfl, rfl, rfl, rfl, rfl, rfl, Or.inr (of_decide_eq_false rfl), rfl, rfl, rfl⟩
    · repeat (first
        | refine nm_r ho ?_
        | refine nm_r ha ?_
        | refine nm_r hb ?_
        | refine nm_r hn ?_
        | refine nm_r hX ?_
        | refine nm_r hY ?_
        | refine nm_e ?_
        | refine qa_v rfl ?_
        | refine And.intro hA ?_
        | refine And.intro hB ?_
        | refine br_f y0 ?_
        | refine br_f y1 ?_
        | refine qa_t rfl ?_
        | refine qa_f rfl ?_
        | refine qa_d rfl ?_
        | refine Exists.intro 30 ?_)
      exact HQ _ ⟨by decide, rfl, rfl, rfl, rfl, rfl, rfl, rfl, rfl, rfl, rfl, Or.inr (of_decide_eq_false rfl), rfl, rfl, rfl⟩
theorem qa_e16 {Q : St2 → Prop} {q w A B N X Y : Int32} {g : Nat → Int32} (hA : vp_in (4 * 0 + A) 20) (hB : vp_in (4 * 0 + B) 20) (ha : (w >>> ((5 : Int32) &&& 31)) &&& 3 = A) (hb : (w >>> ((7 : Int32) &&& 31)) &&& 3 = B) (hn : w >>> ((9 : Int32) &&& 31) = N) (hX : g (4 * 0 + A).toNatClampNeg = X) (hY : g (4 * 0 + B).toNatClampNeg = Y) (ho : w &&& 31 = 16) (HQ : ∀ u, qa_mid 0 0 u → Q u) : wpX_execute Q (qa_u4e q w g) 0 w := by
  by_cases y0 : Y < 0
  · repeat (first
      | refine nm_r ho ?_
      | refine nm_r ha ?_
      | refine nm_r hb ?_
      | refine nm_r hn ?_
      | refine nm_r hX ?_
      | refine nm_r hY ?_
      | refine nm_e ?_
      | refine qa_v rfl ?_
      | refine And.intro hA ?_
      | refine And.intro hB ?_
      | refine br_t y0 ?_
      | refine qa_t rfl ?_
      | refine qa_f rfl ?_
      | refine qa_d rfl ?_
      | refine Exists.intro 30 ?_)
    exact HQ _ ⟨by decide, rfl, rfl, rfl, rfl, rfl, rfl, rfl, rfl, rfl, rfl, Or.inr (of_decide_eq_false rfl), rfl, rfl, rfl⟩
  · by_cases y1 : Y ≤ 3
    · have hV := qa_in4 y0 y1
      repeat (first
        | refine nm_r ho ?_
        | refine nm_r ha ?_
        | refine nm_r hb ?_
        | refine nm_r hn ?_
        | refine nm_r hX ?_
        | refine nm_r hY ?_
        | refine nm_e ?_
        | refine qa_v rfl ?_
        | refine And.intro hA ?_
        | refine And.intro hB ?_
        | refine And.intro hV ?_
        | refine br_f y0 ?_
        | refine br_t y1 ?_
        | refine qa_t rfl ?_
        | refine qa_f rfl ?_
        | refine qa_d rfl ?_
        | refine Exists.intro 30 ?_)
      exact HQ _ ⟨by decide, rfl, rfl, rfl, rfl, rfl, rfl, rfl, rfl, rfl, rfl, Or.inr (of_decide_eq_false rfl), rfl, rfl, rfl⟩
    · repeat (first
        | refine nm_r ho ?_
        | refine nm_r ha ?_
        | refine nm_r hb ?_
        | refine nm_r hn ?_
        | refine nm_r hX ?_
        | refine nm_r hY ?_
        | refine nm_e ?_
        | refine qa_v rfl ?_
        | refine And.intro hA ?_
        | refine And.intro hB ?_
        | refine br_f y0 ?_
        | refine br_f y1 ?_
        | refine qa_t rfl ?_
        | refine qa_f rfl ?_
        | refine qa_d rfl ?_
        | refine Exists.intro 30 ?_)
      exact HQ _ ⟨by decide, rfl, rfl, rfl, rfl, rfl, rfl, rfl, rfl, rfl, rfl, Or.inr (of_decide_eq_false rfl), rfl, rfl, rfl⟩
theorem qa_e18 {Q : St2 → Prop} {q w A B N X Y : Int32} {g : Nat → Int32} (hA : vp_in (4 * 0 + A) 20) (hB : vp_in (4 * 0 + B) 20) (ha : (w >>> ((5 : Int32) &&& 31)) &&& 3 = A) (hb : (w >>> ((7 : Int32) &&& 31)) &&& 3 = B) (hn : w >>> ((9 : Int32) &&& 31) = N) (hX : g (4 * 0 + A).toNatClampNeg = X) (hY : g (4 * 0 + B).toNatClampNeg = Y) (ho : w &&& 31 = 18) (HQ : ∀ u, qa_mid 0 0 u → Q u) : wpX_execute Q (qa_u4e q w g) 0 w := by
  by_cases y0 : Y < 0
  · repeat (first
      | refine nm_r ho ?_
      | refine nm_r ha ?_
      | refine nm_r hb ?_
      | refine nm_r hn ?_
      | refine nm_r hX ?_
      | refine nm_r hY ?_
      | refine nm_e ?_
      | refine qa_v rfl ?_
      | refine And.intro hA ?_
      | refine And.intro hB ?_
      | refine br_t y0 ?_
      | refine qa_t rfl ?_
      | refine qa_f rfl ?_
      | refine qa_d rfl ?_
      | refine Exists.intro 30 ?_)
    exact HQ _ ⟨by decide, rfl, rfl, rfl, rfl, rfl, rfl, rfl, rfl, rfl, rfl, Or.inr (of_decide_eq_false rfl), rfl, rfl, rfl⟩
  · by_cases y1 : Y ≤ 3
    · have hV := qa_in4 y0 y1
      repeat (first
        | refine nm_r ho ?_
        | refine nm_r ha ?_
        | refine nm_r hb ?_
        | refine nm_r hn ?_
        | refine nm_r hX ?_
        | refine nm_r hY ?_
        | refine nm_e ?_
        | refine qa_v rfl ?_
        | refine And.intro hA ?_
        | refine And.intro hB ?_
        | refine And.intro hV ?_
        | refine br_f y0 ?_
        | refine br_t y1 ?_
        | refine qa_t rfl ?_
        | refine qa_f rfl ?_
        | refine qa_d rfl ?_
        | refine Exists.intro 30 ?_)
      exact HQ _ ⟨by decide, rfl, rfl, rfl, rfl, rfl, rfl, rfl, rfl, rfl, rfl, Or.inr (of_decide_eq_false rfl), rfl, rfl, rfl⟩
    · repeat (first
        | refine nm_r ho ?_
        | refine nm_r ha ?_
        | refine nm_r hb ?_
        | refine nm_r hn ?_
        | refine nm_r hX ?_
        | refine nm_r hY ?_
        | refine nm_e ?_
        | refine qa_v rfl ?_
        | refine And.intro hA ?_
        | refine And.intro hB ?_
        | refine br_f y0 ?_
        | refine br_f y1 ?_
        | refine qa_t rfl ?_
        | refine qa_f rfl ?_
        | refine qa_d rfl ?_
        | refine Exists.intro 30 ?_)
      exact HQ _ ⟨by decide, rfl, rfl, rfl, rfl, rfl, rfl, rfl, rfl, rfl, rfl, Or.inr (of_decide_eq_false rfl), rfl, rfl, rfl⟩
theorem qa_e19 {Q : St2 → Prop} {q w A B N X Y : Int32} {g : Nat → Int32} (hA : vp_in (4 * 0 + A) 20) (hB : vp_in (4 * 0 + B) 20) (ha : (w >>> ((5 : Int32) &&& 31)) &&& 3 = A) (hb : (w >>> ((7 : Int32) &&& 31)) &&& 3 = B) (hn : w >>> ((9 : Int32) &&& 31) = N) (hX : g (4 * 0 + A).toNatClampNeg = X) (hY : g (4 * 0 + B).toNatClampNeg = Y) (ho : w &&& 31 = 19) (HQ : ∀ u, qa_mid 0 0 u → Q u) : wpX_execute Q (qa_u4e q w g) 0 w := by
  by_cases y0 : Y < 0
  · repeat (first
      | refine nm_r ho ?_
      | refine nm_r ha ?_
      | refine nm_r hb ?_
      | refine nm_r hn ?_
      | refine nm_r hX ?_
      | refine nm_r hY ?_
      | refine nm_e ?_
      | refine qa_v rfl ?_
      | refine And.intro hA ?_
      | refine And.intro hB ?_
      | refine br_t y0 ?_
      | refine qa_t rfl ?_
      | refine qa_f rfl ?_
      | refine qa_d rfl ?_
      | refine Exists.intro 30 ?_)
    exact HQ _ ⟨by decide, rfl, rfl, rfl, rfl, rfl, rfl, rfl, rfl, rfl, rfl, Or.inr (of_decide_eq_false rfl), rfl, rfl, rfl⟩
  · by_cases y1 : Y ≤ 3
    · have hV := qa_in4 y0 y1
      repeat (first
        | refine nm_r ho ?_
        | refine nm_r ha ?_
        | refine nm_r hb ?_
        | refine nm_r hn ?_
        | refine nm_r hX ?_
        | refine nm_r hY ?_
        | refine nm_e ?_
        | refine qa_v rfl ?_
        | refine And.intro hA ?_
        | refine And.intro hB ?_
        | refine And.intro hV ?_
        | refine br_f y0 ?_
        | refine br_t y1 ?_
        | refine qa_t rfl ?_
        | refine qa_f rfl ?_
        | refine qa_d rfl ?_
        | refine Exists.intro 30 ?_)
      exact HQ _ ⟨by decide, rfl, rfl, rfl, rfl, rfl, rfl, rfl, rfl, rfl, rfl, Or.inr (of_decide_eq_false rfl), rfl, rfl, rfl⟩
    · repeat (first
        | refine nm_r ho ?_
        | refine nm_r ha ?_
        | refine nm_r hb ?_
        | refine nm_r hn ?_
        | refine nm_r hX ?_
        | refine nm_r hY ?_
        | refine nm_e ?_
        | refine qa_v rfl ?_
        | refine And.intro hA ?_
        | refine And.intro hB ?_
        | refine br_f y0 ?_
        | refine br_f y1 ?_
        | refine qa_t rfl ?_
        | refine qa_f rfl ?_
        | refine qa_d rfl ?_
        | refine Exists.intro 30 ?_)
      exact HQ _ ⟨by decide, rfl, rfl, rfl, rfl, rfl, rfl, rfl, rfl, rfl, rfl, Or.inr (of_decide_eq_false rfl), rfl, rfl, rfl⟩
theorem qa_e20 {Q : St2 → Prop} {q w A B N X Y : Int32} {g : Nat → Int32} (hA : vp_in (4 * 0 + A) 20) (hB : vp_in (4 * 0 + B) 20) (ha : (w >>> ((5 : Int32) &&& 31)) &&& 3 = A) (hb : (w >>> ((7 : Int32) &&& 31)) &&& 3 = B) (hn : w >>> ((9 : Int32) &&& 31) = N) (hX : g (4 * 0 + A).toNatClampNeg = X) (hY : g (4 * 0 + B).toNatClampNeg = Y) (ho : w &&& 31 = 20) (HQ : ∀ u, qa_mid 0 0 u → Q u) : wpX_execute Q (qa_u4e q w g) 0 w := by
  by_cases xq : q = X
  · repeat (first
      | refine nm_r ho ?_
      | refine nm_r ha ?_
      | refine nm_r hb ?_
      | refine nm_r hn ?_
      | refine nm_r hX ?_
      | refine nm_r hY ?_
      | refine nm_e ?_
      | refine qa_v rfl ?_
      | refine And.intro hA ?_
      | refine And.intro hB ?_
      | refine br_t xq ?_
      | refine qa_t rfl ?_
      | refine qa_f rfl ?_
      | refine qa_d rfl ?_
      | refine Exists.intro 30 ?_)
    exact HQ _ ⟨by decide, rfl, rfl, rfl, rfl, rfl, rfl, rfl, rfl, rfl, rfl, Or.inr (of_decide_eq_false rfl), rfl, rfl, rfl⟩
  · by_cases x0 : X < 0
    · repeat (first
        | refine nm_r ho ?_
        | refine nm_r ha ?_
        | refine nm_r hb ?_
        | refine nm_r hn ?_
        | refine nm_r hX ?_
        | refine nm_r hY ?_
        | refine nm_e ?_
        | refine qa_v rfl ?_
        | refine And.intro hA ?_
        | refine And.intro hB ?_
        | refine br_f xq ?_
        | refine br_t x0 ?_
        | refine qa_t rfl ?_
        | refine qa_f rfl ?_
        | refine qa_d rfl ?_
        | refine Exists.intro 30 ?_)
      exact HQ _ ⟨by decide, rfl, rfl, rfl, rfl, rfl, rfl, rfl, rfl, rfl, rfl, Or.inr (of_decide_eq_false rfl), rfl, rfl, rfl⟩
    · by_cases x1 : 15 ≤ X
      · repeat (first
          | refine nm_r ho ?_
          | refine nm_r ha ?_
          | refine nm_r hb ?_
          | refine nm_r hn ?_
          | refine nm_r hX ?_
          | refine nm_r hY ?_
          | refine nm_e ?_
          | refine qa_v rfl ?_
          | refine And.intro hA ?_
          | refine And.intro hB ?_
          | refine br_f xq ?_
          | refine br_f x0 ?_
          | refine br_t x1 ?_
          | refine qa_t rfl ?_
          | refine qa_f rfl ?_
          | refine qa_d rfl ?_
          | refine Exists.intro 30 ?_)
        exact HQ _ ⟨by decide, rfl, rfl, rfl, rfl, rfl, rfl, rfl, rfl, rfl, rfl, Or.inr (of_decide_eq_false rfl), rfl, rfl, rfl⟩
      · repeat (first
          | refine nm_r ho ?_
          | refine nm_r ha ?_
          | refine nm_r hb ?_
          | refine nm_r hn ?_
          | refine nm_r hX ?_
          | refine nm_r hY ?_
          | refine nm_e ?_
          | refine qa_v rfl ?_
          | refine And.intro hA ?_
          | refine And.intro hB ?_
          | refine br_f xq ?_
          | refine br_f x0 ?_
          | refine br_f x1 ?_
          | refine qa_t rfl ?_
          | refine qa_f rfl ?_
          | refine qa_d rfl ?_
          | refine Exists.intro 30 ?_)
        exact HQ _ ⟨by decide, rfl, rfl, rfl, rfl, rfl, rfl, rfl, rfl, rfl, rfl, Or.inr (of_decide_eq_false rfl), rfl, rfl, rfl⟩
end
section
theorem qa_k5 {X : Int32} (x0 : ¬ X = 0) (x1 : ¬ X < 0) (x5 : ¬ 5 ≤ X) (z1 : ¬ X = 1) (z2 : ¬ X = 2) (z3 : ¬ X = 3) (z4 : ¬ X = 4) : False := by
  obtain ⟨j, hj, rfl⟩ := nI_of x1
  have h5 : j < 5 := Nat.lt_of_not_le (fun z => x5 (nI_le (a := 5) z hj))
  match j, h5 with
  | 0, _ => exact x0 rfl
  | 1, _ => exact z1 rfl
  | 2, _ => exact z2 rfl
  | 3, _ => exact z3 rfl
  | 4, _ => exact z4 rfl
theorem qa_e21 {Q : St2 → Prop} {q w A B N X Y : Int32} {g : Nat → Int32} (hA : vp_in (4 * 0 + A) 20) (hB : vp_in (4 * 0 + B) 20) (ha : (w >>> ((5 : Int32) &&& 31)) &&& 3 = A) (hb : (w >>> ((7 : Int32) &&& 31)) &&& 3 = B) (hn : w >>> ((9 : Int32) &&& 31) = N) (hX : g (4 * 0 + A).toNatClampNeg = X) (hY : g (4 * 0 + B).toNatClampNeg = Y) (ho : w &&& 31 = 21) (HQ : ∀ u, qa_mid 0 0 u → Q u) : wpX_execute Q (qa_u4e q w g) 0 w := by
  by_cases x5 : X = 15
  · repeat (first
      | refine nm_r ho ?_
      | refine nm_r ha ?_
      | refine nm_r hb ?_
      | refine nm_r hn ?_
      | refine nm_r hX ?_
      | refine nm_r hY ?_
      | refine nm_e ?_
      | refine qa_v rfl ?_
      | refine And.intro hA ?_
      | refine And.intro hB ?_
      | refine br_t x5 ?_
      | refine qa_t rfl ?_
      | refine qa_f rfl ?_
      | refine qa_d rfl ?_
      | refine Exists.intro 30 ?_)
    exact HQ _ ⟨by decide, rfl, rfl, rfl, rfl, rfl, rfl, rfl, rfl, rfl, rfl, Or.inr (of_decide_eq_false rfl), rfl, rfl, rfl⟩
  · by_cases x0 : X < 0
    · repeat (first
        | refine nm_r ho ?_
        | refine nm_r ha ?_
        | refine nm_r hb ?_
        | refine nm_r hn ?_
        | refine nm_r hX ?_
        | refine nm_r hY ?_
        | refine nm_e ?_
        | refine qa_v rfl ?_
        | refine And.intro hA ?_
        | refine And.intro hB ?_
        | refine br_f x5 ?_
        | refine br_t x0 ?_
        | refine qa_t rfl ?_
        | refine qa_f rfl ?_
        | refine qa_d rfl ?_
        | refine Exists.intro 30 ?_)
      exact HQ _ ⟨by decide, rfl, rfl, rfl, rfl, rfl, rfl, rfl, rfl, rfl, rfl, Or.inr (of_decide_eq_false rfl), rfl, rfl, rfl⟩
    · by_cases x1 : 15 ≤ X
      · repeat (first
          | refine nm_r ho ?_
          | refine nm_r ha ?_
          | refine nm_r hb ?_
          | refine nm_r hn ?_
          | refine nm_r hX ?_
          | refine nm_r hY ?_
          | refine nm_e ?_
          | refine qa_v rfl ?_
          | refine And.intro hA ?_
          | refine And.intro hB ?_
          | refine br_f x5 ?_
          | refine br_f x0 ?_
          | refine br_t x1 ?_
          | refine qa_t rfl ?_
          | refine qa_f rfl ?_
          | refine qa_d rfl ?_
          | refine Exists.intro 30 ?_)
        exact HQ _ ⟨by decide, rfl, rfl, rfl, rfl, rfl, rfl, rfl, rfl, rfl, rfl, Or.inr (of_decide_eq_false rfl), rfl, rfl, rfl⟩
      · by_cases xq : q = X
        · repeat (first
            | refine nm_r ho ?_
            | refine nm_r ha ?_
            | refine nm_r hb ?_
            | refine nm_r hn ?_
            | refine nm_r hX ?_
            | refine nm_r hY ?_
            | refine nm_e ?_
            | refine qa_v rfl ?_
            | refine And.intro hA ?_
            | refine And.intro hB ?_
            | refine br_f x5 ?_
            | refine br_f x0 ?_
            | refine br_f x1 ?_
            | refine br_t xq ?_
            | refine qa_t rfl ?_
            | refine qa_f rfl ?_
            | refine qa_d rfl ?_
            | refine Exists.intro 30 ?_)
          exact HQ _ ⟨by decide, rfl, rfl, rfl, rfl, rfl, rfl, rfl, rfl, rfl, rfl, Or.inr (of_decide_eq_false rfl), rfl, rfl, rfl⟩
        · repeat (first
            | refine nm_r ho ?_
            | refine nm_r ha ?_
            | refine nm_r hb ?_
            | refine nm_r hn ?_
            | refine nm_r hX ?_
            | refine nm_r hY ?_
            | refine nm_e ?_
            | refine qa_v rfl ?_
            | refine And.intro hA ?_
            | refine And.intro hB ?_
            | refine br_f x5 ?_
            | refine br_f x0 ?_
            | refine br_f x1 ?_
            | refine br_f xq ?_
            | refine qa_t rfl ?_
            | refine qa_f rfl ?_
            | refine qa_d rfl ?_
            | refine Exists.intro 30 ?_)
          exact HQ _ ⟨by decide, rfl, rfl, rfl, rfl, rfl, rfl, rfl, rfl, rfl, rfl, Or.inr (of_decide_eq_false rfl), rfl, rfl, rfl⟩
theorem qa_e22 {Q : St2 → Prop} {q w A B N X Y : Int32} {g : Nat → Int32} (hA : vp_in (4 * 0 + A) 20) (hB : vp_in (4 * 0 + B) 20) (ha : (w >>> ((5 : Int32) &&& 31)) &&& 3 = A) (hb : (w >>> ((7 : Int32) &&& 31)) &&& 3 = B) (hn : w >>> ((9 : Int32) &&& 31) = N) (hX : g (4 * 0 + A).toNatClampNeg = X) (hY : g (4 * 0 + B).toNatClampNeg = Y) (ho : w &&& 31 = 22) (HQ : ∀ u, qa_mid 0 0 u → Q u) : wpX_execute Q (qa_u4e q w g) 0 w := by
  by_cases x0 : X < 0
  · repeat (first
      | refine nm_r ho ?_
      | refine nm_r ha ?_
      | refine nm_r hb ?_
      | refine nm_r hn ?_
      | refine nm_r hX ?_
      | refine nm_r hY ?_
      | refine nm_e ?_
      | refine qa_v rfl ?_
      | refine And.intro hA ?_
      | refine And.intro hB ?_
      | refine br_t x0 ?_
      | refine qa_t rfl ?_
      | refine qa_f rfl ?_
      | refine qa_d rfl ?_
      | refine Exists.intro 30 ?_)
    exact HQ _ ⟨by decide, rfl, rfl, rfl, rfl, rfl, rfl, rfl, rfl, rfl, rfl, Or.inr (of_decide_eq_false rfl), rfl, rfl, rfl⟩
  · by_cases x1 : 15 ≤ X
    · repeat (first
        | refine nm_r ho ?_
        | refine nm_r ha ?_
        | refine nm_r hb ?_
        | refine nm_r hn ?_
        | refine nm_r hX ?_
        | refine nm_r hY ?_
        | refine nm_e ?_
        | refine qa_v rfl ?_
        | refine And.intro hA ?_
        | refine And.intro hB ?_
        | refine br_f x0 ?_
        | refine br_t x1 ?_
        | refine qa_t rfl ?_
        | refine qa_f rfl ?_
        | refine qa_d rfl ?_
        | refine Exists.intro 30 ?_)
      exact HQ _ ⟨by decide, rfl, rfl, rfl, rfl, rfl, rfl, rfl, rfl, rfl, rfl, Or.inr (of_decide_eq_false rfl), rfl, rfl, rfl⟩
    · by_cases xq : q = X
      · by_cases y0 : Y < 0
        · repeat (first
            | refine nm_r ho ?_
            | refine nm_r ha ?_
            | refine nm_r hb ?_
            | refine nm_r hn ?_
            | refine nm_r hX ?_
            | refine nm_r hY ?_
            | refine nm_e ?_
            | refine qa_v rfl ?_
            | refine And.intro hA ?_
            | refine And.intro hB ?_
            | refine br_f x0 ?_
            | refine br_f x1 ?_
            | refine br_t xq ?_
            | refine br_t y0 ?_
            | refine qa_t rfl ?_
            | refine qa_f rfl ?_
            | refine qa_d rfl ?_
            | refine Exists.intro 30 ?_)
          exact HQ _ ⟨by decide, rfl, rfl, rfl, rfl, rfl, rfl, rfl, rfl, rfl, rfl, Or.inr (of_decide_eq_false rfl), rfl, rfl, rfl⟩
        · by_cases y1 : 15 ≤ Y
          · repeat (first
              | refine nm_r ho ?_
              | refine nm_r ha ?_
              | refine nm_r hb ?_
              | refine nm_r hn ?_
              | refine nm_r hX ?_
              | refine nm_r hY ?_
              | refine nm_e ?_
              | refine qa_v rfl ?_
              | refine And.intro hA ?_
              | refine And.intro hB ?_
              | refine br_f x0 ?_
              | refine br_f x1 ?_
              | refine br_t xq ?_
              | refine br_f y0 ?_
              | refine br_t y1 ?_
              | refine qa_t rfl ?_
              | refine qa_f rfl ?_
              | refine qa_d rfl ?_
              | refine Exists.intro 30 ?_)
            exact HQ _ ⟨by decide, rfl, rfl, rfl, rfl, rfl, rfl, rfl, rfl, rfl, rfl, Or.inr (of_decide_eq_false rfl), rfl, rfl, rfl⟩
          · by_cases yq : q = Y
            · repeat (first
                | refine nm_r ho ?_
                | refine nm_r ha ?_
                | refine nm_r hb ?_
                | refine nm_r hn ?_
                | refine nm_r hX ?_
                | refine nm_r hY ?_
                | refine nm_e ?_
                | refine qa_v rfl ?_
                | refine And.intro hA ?_
                | refine And.intro hB ?_
                | refine br_f x0 ?_
                | refine br_f x1 ?_
                | refine br_t xq ?_
                | refine br_f y0 ?_
                | refine br_f y1 ?_
                | refine br_t yq ?_
                | refine qa_t rfl ?_
                | refine qa_f rfl ?_
                | refine qa_d rfl ?_
                | refine Exists.intro 30 ?_)
              exact HQ _ ⟨by decide, rfl, rfl, rfl, rfl, rfl, rfl, rfl, rfl, rfl, rfl, Or.inr (of_decide_eq_false rfl), rfl, rfl, rfl⟩
            · repeat (first
                | refine nm_r ho ?_
                | refine nm_r ha ?_
                | refine nm_r hb ?_
                | refine nm_r hn ?_
                | refine nm_r hX ?_
                | refine nm_r hY ?_
                | refine nm_e ?_
                | refine qa_v rfl ?_
                | refine And.intro hA ?_
                | refine And.intro hB ?_
                | refine br_f x0 ?_
                | refine br_f x1 ?_
                | refine br_t xq ?_
                | refine br_f y0 ?_
                | refine br_f y1 ?_
                | refine br_f yq ?_
                | refine qa_t rfl ?_
                | refine qa_f rfl ?_
                | refine qa_d rfl ?_
                | refine Exists.intro 30 ?_)
              exact HQ _ ⟨by decide, rfl, rfl, rfl, rfl, rfl, rfl, rfl, rfl, rfl, rfl, Or.inr (of_decide_eq_false rfl), rfl, rfl, rfl⟩
      · repeat (first
          | refine nm_r ho ?_
          | refine nm_r ha ?_
          | refine nm_r hb ?_
          | refine nm_r hn ?_
          | refine nm_r hX ?_
          | refine nm_r hY ?_
          | refine nm_e ?_
          | refine qa_v rfl ?_
          | refine And.intro hA ?_
          | refine And.intro hB ?_
          | refine br_f x0 ?_
          | refine br_f x1 ?_
          | refine br_f xq ?_
          | refine qa_t rfl ?_
          | refine qa_f rfl ?_
          | refine qa_d rfl ?_
          | refine Exists.intro 30 ?_)
        exact HQ _ ⟨by decide, rfl, rfl, rfl, rfl, rfl, rfl, rfl, rfl, rfl, rfl, Or.inr (of_decide_eq_false rfl), rfl, rfl, rfl⟩
theorem qa_e23 {Q : St2 → Prop} {q w A B N X Y : Int32} {g : Nat → Int32} (hA : vp_in (4 * 0 + A) 20) (hB : vp_in (4 * 0 + B) 20) (ha : (w >>> ((5 : Int32) &&& 31)) &&& 3 = A) (hb : (w >>> ((7 : Int32) &&& 31)) &&& 3 = B) (hn : w >>> ((9 : Int32) &&& 31) = N) (hX : g (4 * 0 + A).toNatClampNeg = X) (hY : g (4 * 0 + B).toNatClampNeg = Y) (ho : w &&& 31 = 23) (HQ : ∀ u, qa_mid 0 0 u → Q u) : wpX_execute Q (qa_u4e q w g) 0 w := by
  by_cases x0 : X < 0
  · repeat (first
      | refine nm_r ho ?_
      | refine nm_r ha ?_
      | refine nm_r hb ?_
      | refine nm_r hn ?_
      | refine nm_r hX ?_
      | refine nm_r hY ?_
      | refine nm_e ?_
      | refine qa_v rfl ?_
      | refine And.intro hA ?_
      | refine And.intro hB ?_
      | refine br_t x0 ?_
      | refine qa_t rfl ?_
      | refine qa_f rfl ?_
      | refine qa_d rfl ?_
      | refine Exists.intro 30 ?_)
    exact HQ _ ⟨by decide, rfl, rfl, rfl, rfl, rfl, rfl, rfl, rfl, rfl, rfl, Or.inr (of_decide_eq_false rfl), rfl, rfl, rfl⟩
  · by_cases x1 : 15 ≤ X
    · repeat (first
        | refine nm_r ho ?_
        | refine nm_r ha ?_
        | refine nm_r hb ?_
        | refine nm_r hn ?_
        | refine nm_r hX ?_
        | refine nm_r hY ?_
        | refine nm_e ?_
        | refine qa_v rfl ?_
        | refine And.intro hA ?_
        | refine And.intro hB ?_
        | refine br_f x0 ?_
        | refine br_t x1 ?_
        | refine qa_t rfl ?_
        | refine qa_f rfl ?_
        | refine qa_d rfl ?_
        | refine Exists.intro 30 ?_)
      exact HQ _ ⟨by decide, rfl, rfl, rfl, rfl, rfl, rfl, rfl, rfl, rfl, rfl, Or.inr (of_decide_eq_false rfl), rfl, rfl, rfl⟩
    · by_cases xq : q = X
      · repeat (first
          | refine nm_r ho ?_
          | refine nm_r ha ?_
          | refine nm_r hb ?_
          | refine nm_r hn ?_
          | refine nm_r hX ?_
          | refine nm_r hY ?_
          | refine nm_e ?_
          | refine qa_v rfl ?_
          | refine And.intro hA ?_
          | refine And.intro hB ?_
          | refine br_f x0 ?_
          | refine br_f x1 ?_
          | refine br_t xq ?_
          | refine qa_t rfl ?_
          | refine qa_f rfl ?_
          | refine qa_d rfl ?_
          | refine Exists.intro 30 ?_)
        exact HQ _ ⟨by decide, rfl, rfl, rfl, rfl, rfl, rfl, rfl, rfl, rfl, rfl, Or.inr (of_decide_eq_false rfl), rfl, rfl, rfl⟩
      · repeat (first
          | refine nm_r ho ?_
          | refine nm_r ha ?_
          | refine nm_r hb ?_
          | refine nm_r hn ?_
          | refine nm_r hX ?_
          | refine nm_r hY ?_
          | refine nm_e ?_
          | refine qa_v rfl ?_
          | refine And.intro hA ?_
          | refine And.intro hB ?_
          | refine br_f x0 ?_
          | refine br_f x1 ?_
          | refine br_f xq ?_
          | refine qa_t rfl ?_
          | refine qa_f rfl ?_
          | refine qa_d rfl ?_
          | refine Exists.intro 30 ?_)
        exact HQ _ ⟨by decide, rfl, rfl, rfl, rfl, rfl, rfl, rfl, rfl, rfl, rfl, Or.inr (of_decide_eq_false rfl), rfl, rfl, rfl⟩
theorem qa_e24 {Q : St2 → Prop} {q w A B N X Y : Int32} {g : Nat → Int32} (hA : vp_in (4 * 0 + A) 20) (hB : vp_in (4 * 0 + B) 20) (ha : (w >>> ((5 : Int32) &&& 31)) &&& 3 = A) (hb : (w >>> ((7 : Int32) &&& 31)) &&& 3 = B) (hn : w >>> ((9 : Int32) &&& 31) = N) (hX : g (4 * 0 + A).toNatClampNeg = X) (hY : g (4 * 0 + B).toNatClampNeg = Y) (ho : w &&& 31 = 24) (HQ : ∀ u, qa_mid 1 X u → Q u) : wpX_execute Q (qa_u4e q w g) 0 w := by
  repeat (first
    | refine nm_r ho ?_
    | refine nm_r ha ?_
    | refine nm_r hb ?_
    | refine nm_r hn ?_
    | refine nm_r hX ?_
    | refine nm_r hY ?_
    | refine nm_e ?_
    | refine qa_v rfl ?_
    | refine And.intro hA ?_
    | refine And.intro hB ?_
    | refine qa_t rfl ?_
    | refine qa_f rfl ?_
    | refine qa_d rfl ?_
    | refine Exists.intro 30 ?_)
  exact HQ _ ⟨by decide, rfl, rfl, rfl, rfl, rfl, rfl, rfl, rfl, rfl, rfl, Or.inr (of_decide_eq_false rfl), rfl, rfl, rfl⟩
theorem qa_e26 {Q : St2 → Prop} {q w A B N X Y : Int32} {g : Nat → Int32} (hA : vp_in (4 * 0 + A) 20) (hB : vp_in (4 * 0 + B) 20) (ha : (w >>> ((5 : Int32) &&& 31)) &&& 3 = A) (hb : (w >>> ((7 : Int32) &&& 31)) &&& 3 = B) (hn : w >>> ((9 : Int32) &&& 31) = N) (hX : g (4 * 0 + A).toNatClampNeg = X) (hY : g (4 * 0 + B).toNatClampNeg = Y) (ho : w &&& 31 = 26) (HQ : ∀ u, qa_mid 0 0 u → Q u) : wpX_execute Q (qa_u4e q w g) 0 w := by
  repeat (first
    | refine nm_r ho ?_
    | refine nm_r ha ?_
    | refine nm_r hb ?_
    | refine nm_r hn ?_
    | refine nm_r hX ?_
    | refine nm_r hY ?_
    | refine nm_e ?_
    | refine qa_v rfl ?_
    | refine And.intro hA ?_
    | refine And.intro hB ?_
    | refine qa_t rfl ?_
    | refine qa_f rfl ?_
    | refine qa_d rfl ?_
    | refine Exists.intro 30 ?_)
  exact HQ _ ⟨by decide, rfl, rfl, rfl, rfl, rfl, rfl, rfl, rfl, rfl, rfl, Or.inr (of_decide_eq_false rfl), rfl, rfl, rfl⟩
theorem qa_e27 {Q : St2 → Prop} {q w A B N X Y : Int32} {g : Nat → Int32} (hA : vp_in (4 * 0 + A) 20) (hB : vp_in (4 * 0 + B) 20) (ha : (w >>> ((5 : Int32) &&& 31)) &&& 3 = A) (hb : (w >>> ((7 : Int32) &&& 31)) &&& 3 = B) (hn : w >>> ((9 : Int32) &&& 31) = N) (hX : g (4 * 0 + A).toNatClampNeg = X) (hY : g (4 * 0 + B).toNatClampNeg = Y) (ho : w &&& 31 = 27) (HQ : ∀ u, qa_mid 0 0 u → Q u) : wpX_execute Q (qa_u4e q w g) 0 w := by
  by_cases x0 : X < 0
  · repeat (first
      | refine nm_r ho ?_
      | refine nm_r ha ?_
      | refine nm_r hb ?_
      | refine nm_r hn ?_
      | refine nm_r hX ?_
      | refine nm_r hY ?_
      | refine nm_e ?_
      | refine qa_v rfl ?_
      | refine And.intro hA ?_
      | refine And.intro hB ?_
      | refine br_t x0 ?_
      | refine qa_t rfl ?_
      | refine qa_f rfl ?_
      | refine qa_d rfl ?_
      | refine Exists.intro 30 ?_)
    exact HQ _ ⟨by decide, rfl, rfl, rfl, rfl, rfl, rfl, rfl, rfl, rfl, rfl, Or.inr (of_decide_eq_false rfl), rfl, rfl, rfl⟩
  · by_cases x1 : 15 ≤ X
    · repeat (first
        | refine nm_r ho ?_
        | refine nm_r ha ?_
        | refine nm_r hb ?_
        | refine nm_r hn ?_
        | refine nm_r hX ?_
        | refine nm_r hY ?_
        | refine nm_e ?_
        | refine qa_v rfl ?_
        | refine And.intro hA ?_
        | refine And.intro hB ?_
        | refine br_f x0 ?_
        | refine br_t x1 ?_
        | refine qa_t rfl ?_
        | refine qa_f rfl ?_
        | refine qa_d rfl ?_
        | refine Exists.intro 30 ?_)
      exact HQ _ ⟨by decide, rfl, rfl, rfl, rfl, rfl, rfl, rfl, rfl, rfl, rfl, Or.inr (of_decide_eq_false rfl), rfl, rfl, rfl⟩
    · by_cases xq : q = X
      · repeat (first
          | refine nm_r ho ?_
          | refine nm_r ha ?_
          | refine nm_r hb ?_
          | refine nm_r hn ?_
          | refine nm_r hX ?_
          | refine nm_r hY ?_
          | refine nm_e ?_
          | refine qa_v rfl ?_
          | refine And.intro hA ?_
          | refine And.intro hB ?_
          | refine br_f x0 ?_
          | refine br_f x1 ?_
          | refine br_t xq ?_
          | refine qa_t rfl ?_
          | refine qa_f rfl ?_
          | refine qa_d rfl ?_
          | refine Exists.intro 30 ?_)
        exact HQ _ ⟨by decide, rfl, rfl, rfl, rfl, rfl, rfl, rfl, rfl, rfl, rfl, Or.inr (of_decide_eq_false rfl), rfl, rfl, rfl⟩
      · repeat (first
          | refine nm_r ho ?_
          | refine nm_r ha ?_
          | refine nm_r hb ?_
          | refine nm_r hn ?_
          | refine nm_r hX ?_
          | refine nm_r hY ?_
          | refine nm_e ?_
          | refine qa_v rfl ?_
          | refine And.intro hA ?_
          | refine And.intro hB ?_
          | refine br_f x0 ?_
          | refine br_f x1 ?_
          | refine br_f xq ?_
          | refine qa_t rfl ?_
          | refine qa_f rfl ?_
          | refine qa_d rfl ?_
          | refine Exists.intro 30 ?_)
        exact HQ _ ⟨by decide, rfl, rfl, rfl, rfl, rfl, rfl, rfl, rfl, rfl, rfl, Or.inr (of_decide_eq_false rfl), rfl, rfl, rfl⟩
theorem qa_e28 {Q : St2 → Prop} {q w A B N X Y : Int32} {g : Nat → Int32} (hA : vp_in (4 * 0 + A) 20) (hB : vp_in (4 * 0 + B) 20) (ha : (w >>> ((5 : Int32) &&& 31)) &&& 3 = A) (hb : (w >>> ((7 : Int32) &&& 31)) &&& 3 = B) (hn : w >>> ((9 : Int32) &&& 31) = N) (hX : g (4 * 0 + A).toNatClampNeg = X) (hY : g (4 * 0 + B).toNatClampNeg = Y) (ho : w &&& 31 = 28) (HQ : ∀ u, qa_mid 0 0 u → Q u) : wpX_execute Q (qa_u4e q w g) 0 w := by
  by_cases x0 : X = 0
  · repeat (first
      | refine nm_r ho ?_
      | refine nm_r ha ?_
      | refine nm_r hb ?_
      | refine nm_r hn ?_
      | refine nm_r hX ?_
      | refine nm_r hY ?_
      | refine nm_e ?_
      | refine qa_v rfl ?_
      | refine And.intro hA ?_
      | refine And.intro hB ?_
      | refine br_t x0 ?_
      | refine qa_t rfl ?_
      | refine qa_f rfl ?_
      | refine qa_d rfl ?_
      | refine Exists.intro 30 ?_)
    exact HQ _ ⟨by decide, rfl, rfl, rfl, rfl, rfl, rfl, rfl, rfl, rfl, rfl, Or.inr (of_decide_eq_false rfl), rfl, rfl, rfl⟩
  · by_cases x1 : X < 0
    · repeat (first
        | refine nm_r ho ?_
        | refine nm_r ha ?_
        | refine nm_r hb ?_
        | refine nm_r hn ?_
        | refine nm_r hX ?_
        | refine nm_r hY ?_
        | refine nm_e ?_
        | refine qa_v rfl ?_
        | refine And.intro hA ?_
        | refine And.intro hB ?_
        | refine br_f x0 ?_
        | refine br_t x1 ?_
        | refine qa_t rfl ?_
        | refine qa_f rfl ?_
        | refine qa_d rfl ?_
        | refine Exists.intro 30 ?_)
      exact HQ _ ⟨by decide, rfl, rfl, rfl, rfl, rfl, rfl, rfl, rfl, rfl, rfl, Or.inr (of_decide_eq_false rfl), rfl, rfl, rfl⟩
    · by_cases x5 : 5 ≤ X
      · repeat (first
          | refine nm_r ho ?_
          | refine nm_r ha ?_
          | refine nm_r hb ?_
          | refine nm_r hn ?_
          | refine nm_r hX ?_
          | refine nm_r hY ?_
          | refine nm_e ?_
          | refine qa_v rfl ?_
          | refine And.intro hA ?_
          | refine And.intro hB ?_
          | refine br_f x0 ?_
          | refine br_f x1 ?_
          | refine br_t x5 ?_
          | refine qa_t rfl ?_
          | refine qa_f rfl ?_
          | refine qa_d rfl ?_
          | refine Exists.intro 30 ?_)
        exact HQ _ ⟨by decide, rfl, rfl, rfl, rfl, rfl, rfl, rfl, rfl, rfl, rfl, Or.inr (of_decide_eq_false rfl), rfl, rfl, rfl⟩
      · by_cases z1 : X = 1
        · subst z1
          repeat (first
            | refine nm_r ho ?_
            | refine nm_r ha ?_
            | refine nm_r hb ?_
            | refine nm_r hn ?_
            | refine nm_r hX ?_
            | refine nm_r hY ?_
            | refine nm_e ?_
            | refine qa_v rfl ?_
            | refine And.intro hA ?_
            | refine And.intro hB ?_
            | refine br_f x0 ?_
            | refine br_f x1 ?_
            | refine br_f x5 ?_
            | refine br_t z1 ?_
            | refine qa_t rfl ?_
            | refine qa_f rfl ?_
            | refine qa_d rfl ?_
            | refine Exists.intro 30 ?_)
          exact HQ _ ⟨by decide, rfl, rfl, rfl, rfl, rfl, rfl, rfl, rfl, rfl, rfl, Or.inr (of_decide_eq_false rfl), rfl, rfl, rfl⟩
        · by_cases z2 : X = 2
          · subst z2
            repeat (first
              | refine nm_r ho ?_
              | refine nm_r ha ?_
              | refine nm_r hb ?_
              | refine nm_r hn ?_
              | refine nm_r hX ?_
              | refine nm_r hY ?_
              | refine nm_e ?_
              | refine qa_v rfl ?_
              | refine And.intro hA ?_
              | refine And.intro hB ?_
              | refine br_f x0 ?_
              | refine br_f x1 ?_
              | refine br_f x5 ?_
              | refine br_f z1 ?_
              | refine br_t z2 ?_
              | refine qa_t rfl ?_
              | refine qa_f rfl ?_
              | refine qa_d rfl ?_
              | refine Exists.intro 30 ?_)
            exact HQ _ ⟨by decide, rfl, rfl, rfl, rfl, rfl, rfl, rfl, rfl, rfl, rfl, Or.inr (of_decide_eq_false rfl), rfl, rfl, rfl⟩
          · by_cases z3 : X = 3
            · subst z3
              repeat (first
                | refine nm_r ho ?_
                | refine nm_r ha ?_
                | refine nm_r hb ?_
                | refine nm_r hn ?_
                | refine nm_r hX ?_
                | refine nm_r hY ?_
                | refine nm_e ?_
                | refine qa_v rfl ?_
                | refine And.intro hA ?_
                | refine And.intro hB ?_
                | refine br_f x0 ?_
                | refine br_f x1 ?_
                | refine br_f x5 ?_
                | refine br_f z1 ?_
                | refine br_f z2 ?_
                | refine br_t z3 ?_
                | refine qa_t rfl ?_
                | refine qa_f rfl ?_
                | refine qa_d rfl ?_
                | refine Exists.intro 30 ?_)
              exact HQ _ ⟨by decide, rfl, rfl, rfl, rfl, rfl, rfl, rfl, rfl, rfl, rfl, Or.inr (of_decide_eq_false rfl), rfl, rfl, rfl⟩
            · by_cases z4 : X = 4
              · subst z4
                repeat (first
                  | refine nm_r ho ?_
                  | refine nm_r ha ?_
                  | refine nm_r hb ?_
                  | refine nm_r hn ?_
                  | refine nm_r hX ?_
                  | refine nm_r hY ?_
                  | refine nm_e ?_
                  | refine qa_v rfl ?_
                  | refine And.intro hA ?_
                  | refine And.intro hB ?_
                  | refine br_f x0 ?_
                  | refine br_f x1 ?_
                  | refine br_f x5 ?_
                  | refine br_f z1 ?_
                  | refine br_f z2 ?_
                  | refine br_f z3 ?_
                  | refine br_t z4 ?_
                  | refine qa_t rfl ?_
                  | refine qa_f rfl ?_
                  | refine qa_d rfl ?_
                  | refine Exists.intro 30 ?_)
                exact HQ _ ⟨by decide, rfl, rfl, rfl, rfl, rfl, rfl, rfl, rfl, rfl, rfl, Or.inr (of_decide_eq_false rfl), rfl, rfl, rfl⟩
              · exact (qa_k5 x0 x1 x5 z1 z2 z3 z4).elim
theorem qa_e29 {Q : St2 → Prop} {q w A B N X Y : Int32} {g : Nat → Int32} (hA : vp_in (4 * 0 + A) 20) (hB : vp_in (4 * 0 + B) 20) (ha : (w >>> ((5 : Int32) &&& 31)) &&& 3 = A) (hb : (w >>> ((7 : Int32) &&& 31)) &&& 3 = B) (hn : w >>> ((9 : Int32) &&& 31) = N) (hX : g (4 * 0 + A).toNatClampNeg = X) (hY : g (4 * 0 + B).toNatClampNeg = Y) (ho : w &&& 31 = 29) (HQ : ∀ u, qa_mid 0 0 u → Q u) : wpX_execute Q (qa_u4e q w g) 0 w := by
  repeat (first
    | refine nm_r ho ?_
    | refine nm_r ha ?_
    | refine nm_r hb ?_
    | refine nm_r hn ?_
    | refine nm_r hX ?_
    | refine nm_r hY ?_
    | refine nm_e ?_
    | refine qa_v rfl ?_
    | refine And.intro hA ?_
    | refine And.intro hB ?_
    | refine qa_t rfl ?_
    | refine qa_f rfl ?_
    | refine qa_d rfl ?_
    | refine Exists.intro 30 ?_)
  exact HQ _ ⟨by decide, rfl, rfl, rfl, rfl, rfl, rfl, rfl, rfl, rfl, rfl, Or.inr (of_decide_eq_false rfl), rfl, rfl, rfl⟩
theorem qa_e30 {Q : St2 → Prop} {q w A B N X Y : Int32} {g : Nat → Int32} (hA : vp_in (4 * 0 + A) 20) (hB : vp_in (4 * 0 + B) 20) (ha : (w >>> ((5 : Int32) &&& 31)) &&& 3 = A) (hb : (w >>> ((7 : Int32) &&& 31)) &&& 3 = B) (hn : w >>> ((9 : Int32) &&& 31) = N) (hX : g (4 * 0 + A).toNatClampNeg = X) (hY : g (4 * 0 + B).toNatClampNeg = Y) (ho : w &&& 31 = 30) (HQ : ∀ u, qa_mid 0 0 u → Q u) : wpX_execute Q (qa_u4e q w g) 0 w := by
  repeat (first
    | refine nm_r ho ?_
    | refine nm_r ha ?_
    | refine nm_r hb ?_
    | refine nm_r hn ?_
    | refine nm_r hX ?_
    | refine nm_r hY ?_
    | refine nm_e ?_
    | refine qa_v rfl ?_
    | refine And.intro hA ?_
    | refine And.intro hB ?_
    | refine qa_t rfl ?_
    | refine qa_f rfl ?_
    | refine qa_d rfl ?_
    | refine Exists.intro 30 ?_)
  exact HQ _ ⟨by decide, rfl, rfl, rfl, rfl, rfl, rfl, rfl, rfl, rfl, rfl, Or.inr (of_decide_eq_false rfl), rfl, rfl, rfl⟩
theorem qa_e31 {Q : St2 → Prop} {q w A B N X Y : Int32} {g : Nat → Int32} (hA : vp_in (4 * 0 + A) 20) (hB : vp_in (4 * 0 + B) 20) (ha : (w >>> ((5 : Int32) &&& 31)) &&& 3 = A) (hb : (w >>> ((7 : Int32) &&& 31)) &&& 3 = B) (hn : w >>> ((9 : Int32) &&& 31) = N) (hX : g (4 * 0 + A).toNatClampNeg = X) (hY : g (4 * 0 + B).toNatClampNeg = Y) (ho : w &&& 31 = 31) (HQ : ∀ u, qa_mid 0 0 u → Q u) : wpX_execute Q (qa_u4e q w g) 0 w := by
  repeat (first
    | refine nm_r ho ?_
    | refine nm_r ha ?_
    | refine nm_r hb ?_
    | refine nm_r hn ?_
    | refine nm_r hX ?_
    | refine nm_r hY ?_
    | refine nm_e ?_
    | refine qa_v rfl ?_
    | refine And.intro hA ?_
    | refine And.intro hB ?_
    | refine qa_t rfl ?_
    | refine qa_f rfl ?_
    | refine qa_d rfl ?_
    | refine Exists.intro 30 ?_)
  exact HQ _ ⟨by decide, rfl, rfl, rfl, rfl, rfl, rfl, rfl, rfl, rfl, rfl, Or.inr (of_decide_eq_false rfl), rfl, rfl, rfl⟩
end
section
theorem qa_wait {Q : Int32 → Prop} {q w : Int32} {g : Nat → Int32} (hB : vp_in (4 * 0 + ((w >>> ((7 : Int32) &&& 31)) &&& 3)) 20) (H : Q 0) : wpX_wouldWait Q (qa_u4 q w g) 0 := by
  by_cases h11 : w &&& 31 = 11
  · repeat (first
      | refine nm_e ?_
      | refine qa_v rfl ?_
      | refine br_t h11 ?_
      | refine qa_t rfl ?_
      | refine qa_f rfl ?_
      | refine qa_d rfl ?_
      | refine Exists.intro 30 ?_)
    exact H
  by_cases h15 : w &&& 31 = 15
  · by_cases y0 : g (4 * 0 + ((w >>> ((7 : Int32) &&& 31)) &&& 3)).toNatClampNeg < 0
    · repeat (first
        | refine nm_e ?_
        | refine qa_v rfl ?_
        | refine And.intro hB ?_
        | refine br_f h11 ?_
        | refine br_t h15 ?_
        | refine br_t y0 ?_
        | refine qa_t rfl ?_
        | refine qa_f rfl ?_
        | refine qa_d rfl ?_
        | refine Exists.intro 30 ?_)
      exact H
    by_cases y1 : g (4 * 0 + ((w >>> ((7 : Int32) &&& 31)) &&& 3)).toNatClampNeg ≤ 3
    · have hV := qa_in4 y0 y1
      repeat (first
        | refine nm_e ?_
        | refine qa_v rfl ?_
        | refine And.intro hB ?_
        | refine And.intro hV ?_
        | refine br_f h11 ?_
        | refine br_t h15 ?_
        | refine br_f y0 ?_
        | refine br_t y1 ?_
        | refine qa_t rfl ?_
        | refine qa_f rfl ?_
        | refine qa_d rfl ?_
        | refine Exists.intro 30 ?_)
      exact H
    · repeat (first
        | refine nm_e ?_
        | refine qa_v rfl ?_
        | refine And.intro hB ?_
        | refine br_f h11 ?_
        | refine br_t h15 ?_
        | refine br_f y0 ?_
        | refine br_f y1 ?_
        | refine qa_t rfl ?_
        | refine qa_f rfl ?_
        | refine qa_d rfl ?_
        | refine Exists.intro 30 ?_)
      exact H
  by_cases h16 : w &&& 31 = 16
  · by_cases y0 : g (4 * 0 + ((w >>> ((7 : Int32) &&& 31)) &&& 3)).toNatClampNeg < 0
    · repeat (first
        | refine nm_e ?_
        | refine qa_v rfl ?_
        | refine And.intro hB ?_
        | refine br_f h11 ?_
        | refine br_f h15 ?_
        | refine br_t h16 ?_
        | refine br_t y0 ?_
        | refine qa_t rfl ?_
        | refine qa_f rfl ?_
        | refine qa_d rfl ?_
        | refine Exists.intro 30 ?_)
      exact H
    by_cases y1 : g (4 * 0 + ((w >>> ((7 : Int32) &&& 31)) &&& 3)).toNatClampNeg ≤ 3
    · have hV := qa_in4 y0 y1
      repeat (first
        | refine nm_e ?_
        | refine qa_v rfl ?_
        | refine And.intro hB ?_
        | refine And.intro hV ?_
        | refine br_f h11 ?_
        | refine br_f h15 ?_
        | refine br_t h16 ?_
        | refine br_f y0 ?_
        | refine br_t y1 ?_
        | refine qa_t rfl ?_
        | refine qa_f rfl ?_
        | refine qa_d rfl ?_
        | refine Exists.intro 30 ?_)
      exact H
    · repeat (first
        | refine nm_e ?_
        | refine qa_v rfl ?_
        | refine And.intro hB ?_
        | refine br_f h11 ?_
        | refine br_f h15 ?_
        | refine br_t h16 ?_
        | refine br_f y0 ?_
        | refine br_f y1 ?_
        | refine qa_t rfl ?_
        | refine qa_f rfl ?_
        | refine qa_d rfl ?_
        | refine Exists.intro 30 ?_)
      exact H
  repeat (first
    | refine nm_e ?_
    | refine qa_v rfl ?_
    | refine br_f h11 ?_
    | refine br_f h15 ?_
    | refine br_f h16 ?_
    | refine qa_t rfl ?_
    | refine qa_f rfl ?_
    | refine qa_d rfl ?_
    | refine Exists.intro 30 ?_)
  exact H
theorem qa_workM {post : St2 → Prop} {q w p0 pl : Int32} {g : Nat → Int32} (hB : vp_in (4 * 0 + ((w >>> ((7 : Int32) &&& 31)) &&& 3)) 20) (ho : ¬ w &&& 31 = 25) (E : ∀ Q : St2 → Prop, (∀ u, qa_mid p0 pl u → Q u) → wpX_execute Q (qa_u4e q w g) 0 w) (H : ∀ u, qa_fin 0 2 p0 pl u → post u) : wpX_work post (qa_u4 q w g) 0 := by
  repeat (first
    | refine E _ ?_
    | refine qa_wait hB ?_
    | refine nm_e ?_
    | refine qa_v rfl ?_
    | refine qa_t rfl ?_
    | refine qa_f rfl ?_
    | refine qa_d rfl ?_
    | refine Exists.intro 30 ?_)
  intro u hu
  obtain ⟨ub, nk, lv, fq, lq, ec, pc, a1, a2, a3, a4, a5, a6, a7, a8, a9, a10, a11, a12, a13, a14, a15, a16, a17, a18, a19, a20, a21, a22, a23, a24, a25, a26, a27, a28, a29, a30, a31⟩ := u
  obtain ⟨m1, m2, m3, m4, m5, m6, m7, m8, m9, m10, m11, m12, rfl, rfl, m15⟩ := hu
  have n1 : ¬ 0 ≤ fq := fun z => Int32.lt_irrefl (Int32.lt_of_lt_of_le m1 z)
  have n2 : ¬ a22 0 = 0 := by
    rw [m2]
    decide
  have n7 : ¬ a23 0 = 0 := by
    rw [m7]
    decide
  have n8 : ¬ 0 ≤ a23 0 := by
    rw [m7]
    decide
  rcases m12 with m12 | m12
  · repeat (first
      | refine nm_e ?_
      | refine qa_v rfl ?_
      | refine br_t m1 ?_
      | refine br_f n1 ?_
      | refine br_t m2 ?_
      | refine br_f n2 ?_
      | refine br_t m3 ?_
      | refine br_t m4 ?_
      | refine br_t m5 ?_
      | refine br_t m6 ?_
      | refine br_f n7 ?_
      | refine br_f n8 ?_
      | refine br_t m8 ?_
      | refine br_t m9 ?_
      | refine br_t m10 ?_
      | refine br_t m11 ?_
      | refine br_f ho ?_
      | refine br_t m12 ?_
      | refine qa_t rfl ?_
      | refine qa_f rfl ?_
      | refine qa_d rfl ?_
      | refine Exists.intro 30 ?_)
    exact H _ ⟨rfl, rfl, rfl, m15, fun z => absurd z (by decide)⟩
  · by_cases m13 : a24 0 < 0
    · repeat (first
        | refine nm_e ?_
        | refine qa_v rfl ?_
        | refine br_t m1 ?_
        | refine br_f n1 ?_
        | refine br_t m2 ?_
        | refine br_f n2 ?_
        | refine br_t m3 ?_
        | refine br_t m4 ?_
        | refine br_t m5 ?_
        | refine br_t m6 ?_
        | refine br_f n7 ?_
        | refine br_f n8 ?_
        | refine br_t m8 ?_
        | refine br_t m9 ?_
        | refine br_t m10 ?_
        | refine br_t m11 ?_
        | refine br_f ho ?_
        | refine br_t m13 ?_
        | refine qa_t rfl ?_
        | refine qa_f rfl ?_
        | refine qa_d rfl ?_
        | refine Exists.intro 30 ?_)
      exact H _ ⟨rfl, rfl, rfl, m15, fun z => absurd z (by decide)⟩
    · repeat (first
        | refine nm_e ?_
        | refine qa_v rfl ?_
        | refine br_t m1 ?_
        | refine br_f n1 ?_
        | refine br_t m2 ?_
        | refine br_f n2 ?_
        | refine br_t m3 ?_
        | refine br_t m4 ?_
        | refine br_t m5 ?_
        | refine br_t m6 ?_
        | refine br_f n7 ?_
        | refine br_f n8 ?_
        | refine br_t m8 ?_
        | refine br_t m9 ?_
        | refine br_t m10 ?_
        | refine br_t m11 ?_
        | refine br_f ho ?_
        | refine br_f m13 ?_
        | refine br_f m12 ?_
        | refine qa_t rfl ?_
        | refine qa_f rfl ?_
        | refine qa_d rfl ?_
        | refine Exists.intro 30 ?_)
      exact H _ ⟨rfl, rfl, rfl, m15, fun z => absurd z (by decide)⟩
end
section
theorem qa_w0 {post : St2 → Prop} {q w A B N X Y : Int32} {g : Nat → Int32} (hA : vp_in (4 * 0 + A) 20) (hB : vp_in (4 * 0 + B) 20) (ha : (w >>> ((5 : Int32) &&& 31)) &&& 3 = A) (hb : (w >>> ((7 : Int32) &&& 31)) &&& 3 = B) (hn : w >>> ((9 : Int32) &&& 31) = N) (hX : g (4 * 0 + A).toNatClampNeg = X) (hY : g (4 * 0 + B).toNatClampNeg = Y) (ho : w &&& 31 = 0) (H : ∀ u, qa_fin 0 1 0 0 u → post u) : wpX_work post (qa_u4 q w g) 0 := by
  have hqq : ¬ w &&& 31 = 25 := by
    rw [ho]
    decide
  repeat (first
    | refine nm_r ho ?_
    | refine nm_r ha ?_
    | refine nm_r hb ?_
    | refine nm_r hn ?_
    | refine nm_r hX ?_
    | refine nm_r hY ?_
    | refine nm_e ?_
    | refine qa_v rfl ?_
    | refine And.intro hA ?_
    | refine And.intro hB ?_
    | refine br_f hqq ?_
    | refine qa_t rfl ?_
    | refine qa_f rfl ?_
    | refine qa_d rfl ?_
    | refine Exists.intro 30 ?_)
  exact H _ ⟨rfl, rfl, rfl, rfl, fun z => absurd z (by decide)⟩
theorem qa_w25 {post : St2 → Prop} {q w A B N X Y : Int32} {g : Nat → Int32} (hA : vp_in (4 * 0 + A) 20) (hB : vp_in (4 * 0 + B) 20) (ha : (w >>> ((5 : Int32) &&& 31)) &&& 3 = A) (hb : (w >>> ((7 : Int32) &&& 31)) &&& 3 = B) (hn : w >>> ((9 : Int32) &&& 31) = N) (hX : g (4 * 0 + A).toNatClampNeg = X) (hY : g (4 * 0 + B).toNatClampNeg = Y) (ho : w &&& 31 = 25) (H : ∀ u, qa_fin 1 1 0 0 u → post u) : wpX_work post (qa_u4 q w g) 0 := by
  repeat (first
    | refine nm_r ho ?_
    | refine nm_r ha ?_
    | refine nm_r hb ?_
    | refine nm_r hn ?_
    | refine nm_r hX ?_
    | refine nm_r hY ?_
    | refine nm_e ?_
    | refine qa_v rfl ?_
    | refine And.intro hA ?_
    | refine And.intro hB ?_
    | refine br_t ho ?_
    | refine qa_t rfl ?_
    | refine qa_f rfl ?_
    | refine qa_d rfl ?_
    | refine Exists.intro 30 ?_)
  exact H _ ⟨rfl, rfl, rfl, rfl, fun _ => by decide⟩
theorem qa_w7 {post : St2 → Prop} {q w A B N X Y : Int32} {g : Nat → Int32} (hA : vp_in (4 * 0 + A) 20) (hB : vp_in (4 * 0 + B) 20) (ha : (w >>> ((5 : Int32) &&& 31)) &&& 3 = A) (hb : (w >>> ((7 : Int32) &&& 31)) &&& 3 = B) (hn : w >>> ((9 : Int32) &&& 31) = N) (hX : g (4 * 0 + A).toNatClampNeg = X) (hY : g (4 * 0 + B).toNatClampNeg = Y) (ho : w &&& 31 = 7) (x0 : X = 0) (hN : N = 0) (H : ∀ u, qa_fin 1 3 0 0 u → post u) : wpX_work post (qa_u4 q w g) 0 := by
  subst hN
  have hqq : ¬ w &&& 31 = 25 := by
    rw [ho]
    decide
  repeat (first
    | refine nm_r ho ?_
    | refine nm_r ha ?_
    | refine nm_r hb ?_
    | refine nm_r hn ?_
    | refine nm_r hX ?_
    | refine nm_r hY ?_
    | refine nm_e ?_
    | refine qa_v rfl ?_
    | refine And.intro hA ?_
    | refine And.intro hB ?_
    | refine br_t x0 ?_
    | refine br_f hqq ?_
    | refine qa_t rfl ?_
    | refine qa_f rfl ?_
    | refine qa_d rfl ?_
    | refine Exists.intro 30 ?_)
  exact H _ ⟨rfl, rfl, rfl, rfl, fun _ => by decide⟩
theorem qa_w8 {post : St2 → Prop} {q w A B N X Y : Int32} {g : Nat → Int32} (hA : vp_in (4 * 0 + A) 20) (hB : vp_in (4 * 0 + B) 20) (ha : (w >>> ((5 : Int32) &&& 31)) &&& 3 = A) (hb : (w >>> ((7 : Int32) &&& 31)) &&& 3 = B) (hn : w >>> ((9 : Int32) &&& 31) = N) (hX : g (4 * 0 + A).toNatClampNeg = X) (hY : g (4 * 0 + B).toNatClampNeg = Y) (ho : w &&& 31 = 8) (hN : N = 0) (H : ∀ u, qa_fin 1 3 0 0 u → post u) : wpX_work post (qa_u4 q w g) 0 := by
  subst hN
  have hqq : ¬ w &&& 31 = 25 := by
    rw [ho]
    decide
  repeat (first
    | refine nm_r ho ?_
    | refine nm_r ha ?_
    | refine nm_r hb ?_
    | refine nm_r hn ?_
    | refine nm_r hX ?_
    | refine nm_r hY ?_
    | refine nm_e ?_
    | refine qa_v rfl ?_
    | refine And.intro hA ?_
    | refine And.intro hB ?_
    | refine br_f hqq ?_
    | refine qa_t rfl ?_
    | refine qa_f rfl ?_
    | refine qa_d rfl ?_
    | refine Exists.intro 30 ?_)
  exact H _ ⟨rfl, rfl, rfl, rfl, fun _ => by decide⟩
theorem qa_w9 {post : St2 → Prop} {q w A B N X Y : Int32} {g : Nat → Int32} (hA : vp_in (4 * 0 + A) 20) (hB : vp_in (4 * 0 + B) 20) (ha : (w >>> ((5 : Int32) &&& 31)) &&& 3 = A) (hb : (w >>> ((7 : Int32) &&& 31)) &&& 3 = B) (hn : w >>> ((9 : Int32) &&& 31) = N) (hX : g (4 * 0 + A).toNatClampNeg = X) (hY : g (4 * 0 + B).toNatClampNeg = Y) (ho : w &&& 31 = 9) (x0 : ¬ X = 0) (hN : N = 0) (H : ∀ u, qa_fin 1 3 0 0 u → post u) : wpX_work post (qa_u4 q w g) 0 := by
  subst hN
  have hqq : ¬ w &&& 31 = 25 := by
    rw [ho]
    decide
  repeat (first
    | refine nm_r ho ?_
    | refine nm_r ha ?_
    | refine nm_r hb ?_
    | refine nm_r hn ?_
    | refine nm_r hX ?_
    | refine nm_r hY ?_
    | refine nm_e ?_
    | refine qa_v rfl ?_
    | refine And.intro hA ?_
    | refine And.intro hB ?_
    | refine br_f x0 ?_
    | refine br_f hqq ?_
    | refine qa_t rfl ?_
    | refine qa_f rfl ?_
    | refine qa_d rfl ?_
    | refine Exists.intro 30 ?_)
  exact H _ ⟨rfl, rfl, rfl, rfl, fun _ => by decide⟩
theorem qa_w12 {post : St2 → Prop} {q w A B N X Y : Int32} {g : Nat → Int32} (hA : vp_in (4 * 0 + A) 20) (hB : vp_in (4 * 0 + B) 20) (ha : (w >>> ((5 : Int32) &&& 31)) &&& 3 = A) (hb : (w >>> ((7 : Int32) &&& 31)) &&& 3 = B) (hn : w >>> ((9 : Int32) &&& 31) = N) (hX : g (4 * 0 + A).toNatClampNeg = X) (hY : g (4 * 0 + B).toNatClampNeg = Y) (ho : w &&& 31 = 12) (x0 : ¬ X < 0) (x1 : ¬ 15 ≤ X) (xq : q = X) (H : ∀ u, qa_fin 1 3 0 0 u → post u) : wpX_work post (qa_u4 q w g) 0 := by
  have hqq : ¬ w &&& 31 = 25 := by
    rw [ho]
    decide
  repeat (first
    | refine nm_r ho ?_
    | refine nm_r ha ?_
    | refine nm_r hb ?_
    | refine nm_r hn ?_
    | refine nm_r hX ?_
    | refine nm_r hY ?_
    | refine nm_e ?_
    | refine qa_v rfl ?_
    | refine And.intro hA ?_
    | refine And.intro hB ?_
    | refine br_f x0 ?_
    | refine br_f x1 ?_
    | refine br_t xq ?_
    | refine br_f hqq ?_
    | refine qa_t rfl ?_
    | refine qa_f rfl ?_
    | refine qa_d rfl ?_
    | refine Exists.intro 30 ?_)
  exact H _ ⟨rfl, rfl, rfl, rfl, fun _ => by decide⟩
end
section
theorem qa_20b (i : Nat) : (20 * 1 + nI i : Int32) = nI (20 + i) := nI_add 20 i
theorem qa_20a (i : Nat) : (20 * 0 + nI i : Int32) = nI i := by grind
theorem qa_f76 {post : St2 → Prop} {ub : Int64} {nk lv fq lq : Int32} {ec : Int64} {pc : Int32} {a1 a2 a3 a4 a5 a6 a7 a8 a9 a10 a11 a12 a13 a14 a15 a16 a17 a18 a19 a20 a21 a22 a23 a24 a25 a26 a27 a28 a29 a30 a31 : Nat → Int32} {A : Int32} (H : ∀ b : Nat → Int32, ∃ n, wX_fork_116 post 0 A 1 n 0 ub nk lv fq lq ec pc a1 a2 a3 a4 a5 a6 a7 a8 a9 a10 a11 a12 a13 a14 a15 a16 a17 a18 a19 a20 a21 a22 a23 a24 a25 b a27 a28 a29 a30 a31) : ∃ n, wX_fork_76 post 0 A 1 ub nk lv fq lq ec pc n 0 a1 a2 a3 a4 a5 a6 a7 a8 a9 a10 a11 a12 a13 a14 a15 a16 a17 a18 a19 a20 a21 a22 a23 a24 a25 a26 a27 a28 a29 a30 a31 :=
  pk_loop (fun n i s => wX_fork_76 post 0 A 1 ub nk lv fq lq ec pc n (nI i) a1 a2 a3 a4 a5 a6 a7 a8 a9 a10 a11 a12 a13 a14 a15 a16 a17 a18 a19 a20 a21 a22 a23 a24 a25 s a27 a28 a29 a30 a31) (fun _ _ => True) 20 0 a26 (by omega) trivial
    (fun n s _ => pk_le 20 20 (fun _ => H s) (fun z => absurd z (by omega)))
    (fun n i s hi _ hw => pk_le 20 i (fun z => absurd z (by omega)) (fun _ => ⟨pk_in i 100 (by omega) (qa_20a i), pk_in (20 + i) 100 (by omega) (qa_20b i), nm_e (nm_r (nI_1 i) (hw _ trivial))⟩))
theorem qa_w10 {post : St2 → Prop} {q w A B N X Y : Int32} {g : Nat → Int32} (hA : vp_in (4 * 0 + A) 20) (hB : vp_in (4 * 0 + B) 20) (ha : (w >>> ((5 : Int32) &&& 31)) &&& 3 = A) (hb : (w >>> ((7 : Int32) &&& 31)) &&& 3 = B) (hn : w >>> ((9 : Int32) &&& 31) = N) (hX : g (4 * 0 + A).toNatClampNeg = X) (hY : g (4 * 0 + B).toNatClampNeg = Y) (ho : w &&& 31 = 10) (hA1 : vp_in (4 * 1 + A) 20) (H : ∀ u, qa_fin 0 2 0 0 u → post u) : wpX_work post (qa_u4 q w g) 0 := by
  have hqq : ¬ w &&& 31 = 25 := by
    rw [ho]
    decide
  repeat (first
    | refine qa_f76 (fun b => ?_)
    | refine nm_r ho ?_
    | refine nm_r ha ?_
    | refine nm_r hb ?_
    | refine nm_r hn ?_
    | refine nm_r hX ?_
    | refine nm_r hY ?_
    | refine nm_e ?_
    | refine qa_v rfl ?_
    | refine And.intro hA ?_
    | refine And.intro hA1 ?_
    | refine And.intro hB ?_
    | refine br_f hqq ?_
    | refine qa_t rfl ?_
    | refine qa_f rfl ?_
    | refine qa_d rfl ?_
    | refine Exists.intro 30 ?_)
  exact H _ ⟨rfl, rfl, rfl, rfl, fun z => absurd z (by decide)⟩
theorem qa_w17 {post : St2 → Prop} {q w A B N X Y : Int32} {g : Nat → Int32} (hA : vp_in (4 * 0 + A) 20) (hB : vp_in (4 * 0 + B) 20) (ha : (w >>> ((5 : Int32) &&& 31)) &&& 3 = A) (hb : (w >>> ((7 : Int32) &&& 31)) &&& 3 = B) (hn : w >>> ((9 : Int32) &&& 31) = N) (hX : g (4 * 0 + A).toNatClampNeg = X) (hY : g (4 * 0 + B).toNatClampNeg = Y) (ho : w &&& 31 = 17) (H : ∀ u, qa_fin 0 2 0 0 u → post u) : wpX_work post (qa_u4 q w g) 0 := by
  have hqq : ¬ w &&& 31 = 25 := by
    rw [ho]
    decide
  repeat (first
    | refine nm_r ho ?_
    | refine nm_r ha ?_
    | refine nm_r hb ?_
    | refine nm_r hn ?_
    | refine nm_r hX ?_
    | refine nm_r hY ?_
    | refine nm_e ?_
    | refine qa_v rfl ?_
    | refine And.intro hA ?_
    | refine And.intro hB ?_
    | refine br_f hqq ?_
    | refine qa_t rfl ?_
    | refine qa_f rfl ?_
    | refine qa_d rfl ?_
    | refine Exists.intro 30 ?_)
  exact H _ ⟨rfl, rfl, rfl, rfl, fun z => absurd z (by decide)⟩
end
section
def qa_midO (u : St2) : Prop := match u with
  | (ub, nk, lv, fq, lq, ec, pc, a1, a2, a3, a4, a5, a6, a7, a8, a9, a10, a11, a12, a13, a14, a15, a16, a17, a18, a19, a20, a21, a22, a23, a24, a25, a26, a27, a28, a29, a30, a31) => fq < 0 ∧ a22 0 = 1 ∧ a22 1 = 0 ∧ a22 2 = 0 ∧ a22 3 = 0 ∧ a22 4 = 0 ∧ a23 0 = -1 ∧ a29 0 = 1 ∧ a29 1 = 0 ∧ a29 2 = 0 ∧ a29 3 = 0 ∧ (¬ a24 0 < 0 ∧ ¬ a24 0 < a25 0) ∧ ec = 1 ∧ pc = 0 ∧ a31 0 = 0 ∧ a16 = upd (fun _ => 0) 0 1 ∧ ((a13 0 = 1 ∧ a8 1 = 1) ∨ (a13 0 = 2 ∧ a8 2 = 1))
theorem qa_open92 {post : Int32 → St2 → Prop} {ub : Int64} {nk lv fq lq : Int32} {ec : Int64} {pc : Int32} {a1 a2 a3 a4 a5 a6 a7 a8 a9 a10 a11 a12 a13 a14 a15 a16 a17 a18 a19 a20 a21 a22 a23 a24 a25 a26 a27 a28 a29 a30 a31 : Nat → Int32} {A h node : Int32} (hA : vp_in (4 * 0 + A) 20) (hv : vp_in node 10) (H : ∀ b14 b15 : Nat → Int32, post 1 (ub, nk, lv, fq, lq, ec, pc, a1, a2, a3, a4, a5, a6, a7, a8, upd a9 node.toNatClampNeg ((a9 node.toNatClampNeg) + 1).toInt8.toInt32, a10, a11, a12, upd a13 0 node.toInt8.toInt32, b14, b15, upd a16 0 1, a17, a18, a19, a20, a21, a22, a23, a24, a25, a26, upd a27 (4 * 0 + A).toNatClampNeg 0, a28, upd a29 0 1, a30, a31)) : wX_open_92 post 0 A h 0 0 node ub nk lv fq lq ec pc a1 a2 a3 a4 a5 a6 a7 a8 a9 a10 a11 a12 a13 a14 a15 a16 a17 a18 a19 a20 a21 a22 a23 a24 a25 a26 a27 a28 a29 a30 a31 := by
  by_cases c0 : h ≤ 0
  · by_cases c3 : h = 3
    · repeat (first
        | refine nm_e ?_
        | refine qa_v rfl ?_
        | refine And.intro hA ?_
        | refine And.intro hv ?_
        | refine br_t c0 ?_
        | refine br_t c3 ?_
        | refine qa_t rfl ?_
        | refine qa_f rfl ?_
        | refine qa_d rfl ?_
        | refine Exists.intro 30 ?_)
      exact H _ _
    · repeat (first
        | refine nm_e ?_
        | refine qa_v rfl ?_
        | refine And.intro hA ?_
        | refine And.intro hv ?_
        | refine br_t c0 ?_
        | refine br_f c3 ?_
        | refine qa_t rfl ?_
        | refine qa_f rfl ?_
        | refine qa_d rfl ?_
        | refine Exists.intro 30 ?_)
      exact H _ _
  · by_cases c3 : h = 3
    · repeat (first
        | refine nm_e ?_
        | refine qa_v rfl ?_
        | refine And.intro hA ?_
        | refine And.intro hv ?_
        | refine br_f c0 ?_
        | refine br_t c3 ?_
        | refine qa_t rfl ?_
        | refine qa_f rfl ?_
        | refine qa_d rfl ?_
        | refine Exists.intro 30 ?_)
      exact H _ _
    · repeat (first
        | refine nm_e ?_
        | refine qa_v rfl ?_
        | refine And.intro hA ?_
        | refine And.intro hv ?_
        | refine br_f c0 ?_
        | refine br_f c3 ?_
        | refine qa_t rfl ?_
        | refine qa_f rfl ?_
        | refine qa_d rfl ?_
        | refine Exists.intro 30 ?_)
      exact H _ _
theorem qa_e13 {Q : St2 → Prop} {q w A B N X Y : Int32} {g : Nat → Int32} (hA : vp_in (4 * 0 + A) 20) (hB : vp_in (4 * 0 + B) 20) (ha : (w >>> ((5 : Int32) &&& 31)) &&& 3 = A) (hb : (w >>> ((7 : Int32) &&& 31)) &&& 3 = B) (hn : w >>> ((9 : Int32) &&& 31) = N) (hX : g (4 * 0 + A).toNatClampNeg = X) (hY : g (4 * 0 + B).toNatClampNeg = Y) (ho : w &&& 31 = 13) (HQ : ∀ u, qa_mid 0 0 u → Q u) (HO : ∀ u, qa_midO u → Q u) : wpX_execute Q (qa_u4e q w g) 0 w := by
  by_cases x0 : X < 0
  · by_cases c2 : N &&& 3 = 2
    · by_cases xq : q = X
      · repeat (first
          | refine qa_open92 hA (of_decide_eq_false rfl) (fun b14 b15 => ?_)
          | refine nm_r ho ?_
          | refine nm_r ha ?_
          | refine nm_r hb ?_
          | refine nm_r hn ?_
          | refine nm_r hX ?_
          | refine nm_r hY ?_
          | refine nm_e ?_
          | refine qa_v rfl ?_
          | refine And.intro hA ?_
          | refine And.intro hB ?_
          | refine br_t x0 ?_
          | refine br_t c2 ?_
          | refine br_t xq ?_
          | refine qa_t rfl ?_
          | refine qa_f rfl ?_
          | refine qa_d rfl ?_
          | refine Exists.intro 30 ?_)
        exact HQ _ ⟨by decide, rfl, rfl, rfl, rfl, rfl, rfl, rfl, rfl, rfl, rfl, Or.inr (of_decide_eq_false rfl), rfl, rfl, rfl⟩
      · repeat (first
          | refine qa_open92 hA (of_decide_eq_false rfl) (fun b14 b15 => ?_)
          | refine nm_r ho ?_
          | refine nm_r ha ?_
          | refine nm_r hb ?_
          | refine nm_r hn ?_
          | refine nm_r hX ?_
          | refine nm_r hY ?_
          | refine nm_e ?_
          | refine qa_v rfl ?_
          | refine And.intro hA ?_
          | refine And.intro hB ?_
          | refine br_t x0 ?_
          | refine br_t c2 ?_
          | refine br_f xq ?_
          | refine qa_t rfl ?_
          | refine qa_f rfl ?_
          | refine qa_d rfl ?_
          | refine Exists.intro 30 ?_)
        exact HQ _ ⟨by decide, rfl, rfl, rfl, rfl, rfl, rfl, rfl, rfl, rfl, rfl, Or.inr (of_decide_eq_false rfl), rfl, rfl, rfl⟩
    · repeat (first
        | refine qa_open92 hA (of_decide_eq_false rfl) (fun b14 b15 => ?_)
        | refine nm_r ho ?_
        | refine nm_r ha ?_
        | refine nm_r hb ?_
        | refine nm_r hn ?_
        | refine nm_r hX ?_
        | refine nm_r hY ?_
        | refine nm_e ?_
        | refine qa_v rfl ?_
        | refine And.intro hA ?_
        | refine And.intro hB ?_
        | refine br_t x0 ?_
        | refine br_f c2 ?_
        | refine qa_t rfl ?_
        | refine qa_f rfl ?_
        | refine qa_d rfl ?_
        | refine Exists.intro 30 ?_)
      exact HQ _ ⟨by decide, rfl, rfl, rfl, rfl, rfl, rfl, rfl, rfl, rfl, rfl, Or.inr (of_decide_eq_false rfl), rfl, rfl, rfl⟩
  · by_cases x1 : 15 ≤ X
    · by_cases c2 : N &&& 3 = 2
      · by_cases xq : q = X
        · repeat (first
            | refine qa_open92 hA (of_decide_eq_false rfl) (fun b14 b15 => ?_)
            | refine nm_r ho ?_
            | refine nm_r ha ?_
            | refine nm_r hb ?_
            | refine nm_r hn ?_
            | refine nm_r hX ?_
            | refine nm_r hY ?_
            | refine nm_e ?_
            | refine qa_v rfl ?_
            | refine And.intro hA ?_
            | refine And.intro hB ?_
            | refine br_f x0 ?_
            | refine br_t x1 ?_
            | refine br_t c2 ?_
            | refine br_t xq ?_
            | refine qa_t rfl ?_
            | refine qa_f rfl ?_
            | refine qa_d rfl ?_
            | refine Exists.intro 30 ?_)
          exact HQ _ ⟨by decide, rfl, rfl, rfl, rfl, rfl, rfl, rfl, rfl, rfl, rfl, Or.inr (of_decide_eq_false rfl), rfl, rfl, rfl⟩
        · repeat (first
            | refine qa_open92 hA (of_decide_eq_false rfl) (fun b14 b15 => ?_)
            | refine nm_r ho ?_
            | refine nm_r ha ?_
            | refine nm_r hb ?_
            | refine nm_r hn ?_
            | refine nm_r hX ?_
            | refine nm_r hY ?_
            | refine nm_e ?_
            | refine qa_v rfl ?_
            | refine And.intro hA ?_
            | refine And.intro hB ?_
            | refine br_f x0 ?_
            | refine br_t x1 ?_
            | refine br_t c2 ?_
            | refine br_f xq ?_
            | refine qa_t rfl ?_
            | refine qa_f rfl ?_
            | refine qa_d rfl ?_
            | refine Exists.intro 30 ?_)
          exact HQ _ ⟨by decide, rfl, rfl, rfl, rfl, rfl, rfl, rfl, rfl, rfl, rfl, Or.inr (of_decide_eq_false rfl), rfl, rfl, rfl⟩
      · repeat (first
          | refine qa_open92 hA (of_decide_eq_false rfl) (fun b14 b15 => ?_)
          | refine nm_r ho ?_
          | refine nm_r ha ?_
          | refine nm_r hb ?_
          | refine nm_r hn ?_
          | refine nm_r hX ?_
          | refine nm_r hY ?_
          | refine nm_e ?_
          | refine qa_v rfl ?_
          | refine And.intro hA ?_
          | refine And.intro hB ?_
          | refine br_f x0 ?_
          | refine br_t x1 ?_
          | refine br_f c2 ?_
          | refine qa_t rfl ?_
          | refine qa_f rfl ?_
          | refine qa_d rfl ?_
          | refine Exists.intro 30 ?_)
        exact HQ _ ⟨by decide, rfl, rfl, rfl, rfl, rfl, rfl, rfl, rfl, rfl, rfl, Or.inr (of_decide_eq_false rfl), rfl, rfl, rfl⟩
    · by_cases c2 : N &&& 3 = 2
      · by_cases xq : q = X
        · repeat (first
            | refine qa_open92 hA (of_decide_eq_false rfl) (fun b14 b15 => ?_)
            | refine nm_r ho ?_
            | refine nm_r ha ?_
            | refine nm_r hb ?_
            | refine nm_r hn ?_
            | refine nm_r hX ?_
            | refine nm_r hY ?_
            | refine nm_e ?_
            | refine qa_v rfl ?_
            | refine And.intro hA ?_
            | refine And.intro hB ?_
            | refine br_f x0 ?_
            | refine br_f x1 ?_
            | refine br_t c2 ?_
            | refine br_t xq ?_
            | refine qa_t rfl ?_
            | refine qa_f rfl ?_
            | refine qa_d rfl ?_
            | refine Exists.intro 30 ?_)
          exact HO _ ⟨by decide, rfl, rfl, rfl, rfl, rfl, rfl, rfl, rfl, rfl, rfl, ⟨of_decide_eq_false rfl, of_decide_eq_false rfl⟩, rfl, rfl, rfl, rfl, Or.inl ⟨rfl, rfl⟩⟩
        · repeat (first
            | refine qa_open92 hA (of_decide_eq_false rfl) (fun b14 b15 => ?_)
            | refine nm_r ho ?_
            | refine nm_r ha ?_
            | refine nm_r hb ?_
            | refine nm_r hn ?_
            | refine nm_r hX ?_
            | refine nm_r hY ?_
            | refine nm_e ?_
            | refine qa_v rfl ?_
            | refine And.intro hA ?_
            | refine And.intro hB ?_
            | refine br_f x0 ?_
            | refine br_f x1 ?_
            | refine br_t c2 ?_
            | refine br_f xq ?_
            | refine qa_t rfl ?_
            | refine qa_f rfl ?_
            | refine qa_d rfl ?_
            | refine Exists.intro 30 ?_)
          exact HO _ ⟨by decide, rfl, rfl, rfl, rfl, rfl, rfl, rfl, rfl, rfl, rfl, ⟨of_decide_eq_false rfl, of_decide_eq_false rfl⟩, rfl, rfl, rfl, rfl, Or.inr ⟨rfl, rfl⟩⟩
      · by_cases xq : q = X
        · repeat (first
            | refine qa_open92 hA (of_decide_eq_false rfl) (fun b14 b15 => ?_)
            | refine nm_r ho ?_
            | refine nm_r ha ?_
            | refine nm_r hb ?_
            | refine nm_r hn ?_
            | refine nm_r hX ?_
            | refine nm_r hY ?_
            | refine nm_e ?_
            | refine qa_v rfl ?_
            | refine And.intro hA ?_
            | refine And.intro hB ?_
            | refine br_f x0 ?_
            | refine br_f x1 ?_
            | refine br_f c2 ?_
            | refine br_t xq ?_
            | refine qa_t rfl ?_
            | refine qa_f rfl ?_
            | refine qa_d rfl ?_
            | refine Exists.intro 30 ?_)
          exact HO _ ⟨by decide, rfl, rfl, rfl, rfl, rfl, rfl, rfl, rfl, rfl, rfl, ⟨of_decide_eq_false rfl, of_decide_eq_false rfl⟩, rfl, rfl, rfl, rfl, Or.inl ⟨rfl, rfl⟩⟩
        · repeat (first
            | refine qa_open92 hA (of_decide_eq_false rfl) (fun b14 b15 => ?_)
            | refine nm_r ho ?_
            | refine nm_r ha ?_
            | refine nm_r hb ?_
            | refine nm_r hn ?_
            | refine nm_r hX ?_
            | refine nm_r hY ?_
            | refine nm_e ?_
            | refine qa_v rfl ?_
            | refine And.intro hA ?_
            | refine And.intro hB ?_
            | refine br_f x0 ?_
            | refine br_f x1 ?_
            | refine br_f c2 ?_
            | refine br_f xq ?_
            | refine qa_t rfl ?_
            | refine qa_f rfl ?_
            | refine qa_d rfl ?_
            | refine Exists.intro 30 ?_)
          exact HQ _ ⟨by decide, rfl, rfl, rfl, rfl, rfl, rfl, rfl, rfl, rfl, rfl, Or.inr (of_decide_eq_false rfl), rfl, rfl, rfl⟩
theorem qa_w13 {post : St2 → Prop} {q w A B N X Y : Int32} {g : Nat → Int32} (hA : vp_in (4 * 0 + A) 20) (hB : vp_in (4 * 0 + B) 20) (hBw : vp_in (4 * 0 + ((w >>> ((7 : Int32) &&& 31)) &&& 3)) 20) (ha : (w >>> ((5 : Int32) &&& 31)) &&& 3 = A) (hb : (w >>> ((7 : Int32) &&& 31)) &&& 3 = B) (hn : w >>> ((9 : Int32) &&& 31) = N) (hX : g (4 * 0 + A).toNatClampNeg = X) (hY : g (4 * 0 + B).toNatClampNeg = Y) (ho : w &&& 31 = 13) (H : ∀ u, qa_fin 0 2 0 0 u → post u) : wpX_work post (qa_u4 q w g) 0 := by
  have hqq : ¬ w &&& 31 = 25 := by
    rw [ho]
    decide
  repeat (first
    | refine qa_e13 hA hB ha hb hn hX hY ho ?_ ?_
    | refine qa_wait hBw ?_
    | refine nm_e ?_
    | refine qa_v rfl ?_
    | refine qa_t rfl ?_
    | refine qa_f rfl ?_
    | refine qa_d rfl ?_
    | refine Exists.intro 30 ?_)
  · intro u hu
    obtain ⟨ub, nk, lv, fq, lq, ec, pc, a1, a2, a3, a4, a5, a6, a7, a8, a9, a10, a11, a12, a13, a14, a15, a16, a17, a18, a19, a20, a21, a22, a23, a24, a25, a26, a27, a28, a29, a30, a31⟩ := u
    obtain ⟨m1, m2, m3, m4, m5, m6, m7, m8, m9, m10, m11, m12, rfl, rfl, m15⟩ := hu
    have n1 : ¬ 0 ≤ fq := fun z => Int32.lt_irrefl (Int32.lt_of_lt_of_le m1 z)
    have n2 : ¬ a22 0 = 0 := by
      rw [m2]
      decide
    have n7 : ¬ a23 0 = 0 := by
      rw [m7]
      decide
    have n8 : ¬ 0 ≤ a23 0 := by
      rw [m7]
      decide
    rcases m12 with m12 | m12
    · repeat (first
        | refine nm_e ?_
        | refine qa_v rfl ?_
        | refine br_t m1 ?_
        | refine br_f n1 ?_
        | refine br_t m2 ?_
        | refine br_f n2 ?_
        | refine br_t m3 ?_
        | refine br_t m4 ?_
        | refine br_t m5 ?_
        | refine br_t m6 ?_
        | refine br_f n7 ?_
        | refine br_f n8 ?_
        | refine br_t m8 ?_
        | refine br_t m9 ?_
        | refine br_t m10 ?_
        | refine br_t m11 ?_
        | refine br_f hqq ?_
        | refine br_t m12 ?_
        | refine qa_t rfl ?_
        | refine qa_f rfl ?_
        | refine qa_d rfl ?_
        | refine Exists.intro 30 ?_)
      exact H _ ⟨rfl, rfl, rfl, m15, fun z => absurd z (by decide)⟩
    · by_cases m13 : a24 0 < 0
      · repeat (first
          | refine nm_e ?_
          | refine qa_v rfl ?_
          | refine br_t m1 ?_
          | refine br_f n1 ?_
          | refine br_t m2 ?_
          | refine br_f n2 ?_
          | refine br_t m3 ?_
          | refine br_t m4 ?_
          | refine br_t m5 ?_
          | refine br_t m6 ?_
          | refine br_f n7 ?_
          | refine br_f n8 ?_
          | refine br_t m8 ?_
          | refine br_t m9 ?_
          | refine br_t m10 ?_
          | refine br_t m11 ?_
          | refine br_f hqq ?_
          | refine br_t m13 ?_
          | refine qa_t rfl ?_
          | refine qa_f rfl ?_
          | refine qa_d rfl ?_
          | refine Exists.intro 30 ?_)
        exact H _ ⟨rfl, rfl, rfl, m15, fun z => absurd z (by decide)⟩
      · repeat (first
          | refine nm_e ?_
          | refine qa_v rfl ?_
          | refine br_t m1 ?_
          | refine br_f n1 ?_
          | refine br_t m2 ?_
          | refine br_f n2 ?_
          | refine br_t m3 ?_
          | refine br_t m4 ?_
          | refine br_t m5 ?_
          | refine br_t m6 ?_
          | refine br_f n7 ?_
          | refine br_f n8 ?_
          | refine br_t m8 ?_
          | refine br_t m9 ?_
          | refine br_t m10 ?_
          | refine br_t m11 ?_
          | refine br_f hqq ?_
          | refine br_f m13 ?_
          | refine br_f m12 ?_
          | refine qa_t rfl ?_
          | refine qa_f rfl ?_
          | refine qa_d rfl ?_
          | refine Exists.intro 30 ?_)
        exact H _ ⟨rfl, rfl, rfl, m15, fun z => absurd z (by decide)⟩
  intro u hu
  obtain ⟨ub, nk, lv, fq, lq, ec, pc, a1, a2, a3, a4, a5, a6, a7, a8, a9, a10, a11, a12, a13, a14, a15, a16, a17, a18, a19, a20, a21, a22, a23, a24, a25, a26, a27, a28, a29, a30, a31⟩ := u
  obtain ⟨m1, m2, m3, m4, m5, m6, m7, m8, m9, m10, m11, ⟨m12, m13⟩, rfl, rfl, m15, rfl, m17⟩ := hu
  have n1 : ¬ 0 ≤ fq := fun z => Int32.lt_irrefl (Int32.lt_of_lt_of_le m1 z)
  have n2 : ¬ a22 0 = 0 := by
    rw [m2]
    decide
  have n7 : ¬ a23 0 = 0 := by
    rw [m7]
    decide
  have n8 : ¬ 0 ≤ a23 0 := by
    rw [m7]
    decide
  rcases m17 with ⟨m17, m18⟩ | ⟨m17, m18⟩
  · have p8 : 0 < a8 1 := by
      rw [m18]
      decide
    repeat (first
      | refine nm_r m8 ?_
      | refine nm_r m9 ?_
      | refine nm_r m10 ?_
      | refine nm_r m11 ?_
      | refine nm_r m17 ?_
      | refine nm_e ?_
      | refine qa_v rfl ?_
      | refine br_t m1 ?_
      | refine br_f n1 ?_
      | refine br_t m2 ?_
      | refine br_f n2 ?_
      | refine br_t m3 ?_
      | refine br_t m4 ?_
      | refine br_t m5 ?_
      | refine br_t m6 ?_
      | refine br_f n7 ?_
      | refine br_f n8 ?_
      | refine br_f hqq ?_
      | refine br_f m12 ?_
      | refine br_f m13 ?_
      | refine br_t p8 ?_
      | refine qa_t rfl ?_
      | refine qa_f rfl ?_
      | refine qa_d rfl ?_
      | refine Exists.intro 30 ?_)
    exact H _ ⟨rfl, rfl, rfl, m15, fun z => absurd z (by decide)⟩
  · have p8 : 0 < a8 2 := by
      rw [m18]
      decide
    repeat (first
      | refine nm_r m8 ?_
      | refine nm_r m9 ?_
      | refine nm_r m10 ?_
      | refine nm_r m11 ?_
      | refine nm_r m17 ?_
      | refine nm_e ?_
      | refine qa_v rfl ?_
      | refine br_t m1 ?_
      | refine br_f n1 ?_
      | refine br_t m2 ?_
      | refine br_f n2 ?_
      | refine br_t m3 ?_
      | refine br_t m4 ?_
      | refine br_t m5 ?_
      | refine br_t m6 ?_
      | refine br_f n7 ?_
      | refine br_f n8 ?_
      | refine br_f hqq ?_
      | refine br_f m12 ?_
      | refine br_f m13 ?_
      | refine br_t p8 ?_
      | refine qa_t rfl ?_
      | refine qa_f rfl ?_
      | refine qa_d rfl ?_
      | refine Exists.intro 30 ?_)
    exact H _ ⟨rfl, rfl, rfl, m15, fun z => absurd z (by decide)⟩
end
section
theorem qa_tBad {post : Int32 → St0 → Prop} {q i w p x o X : Int32} (hb : q < 0 ∨ 14 < q ∨ ¬ i = 0) (H : post 1 ()) : wL_lawOf_182 post 320 5120 q i w p x 0 0 o X 0 0 0 0 0 := by
  unfold wL_lawOf_182
  refine ⟨by decide, by decide, 31, 680, by decide, by decide, qa_init (qa_fileB hb (qa_t rfl (qa_t rfl (qa_spawn1 (qa_t rfl (qa_t rfl (qa_run1 ?_)))))))⟩
  repeat (first
    | refine nm_e ?_
    | refine qa_v rfl ?_
    | refine qa_t rfl ?_
    | refine qa_f rfl ?_
    | refine qa_d rfl ?_
    | refine Exists.intro 30 ?_)
  exact H
theorem qa_tNot {post : Int32 → St0 → Prop} {q w p x o X : Int32} (h0 : ¬ q < 0) (h1 : ¬ 15 ≤ q) (hq : ¬ q = p) (H : post 1 ()) : wL_lawOf_182 post 320 5120 q 0 w p x 1 0 o X 0 0 0 0 0 := by
  unfold wL_lawOf_182
  refine ⟨by decide, by decide, 31, 680, by decide, by decide, qa_init (qa_fileG h0 h1 (qa_f rfl (qa_t rfl (qa_spawn2 hq (qa_t rfl (qa_t rfl (qa_run2 ?_)))))))⟩
  repeat (first
    | refine nm_e ?_
    | refine qa_v rfl ?_
    | refine qa_t rfl ?_
    | refine qa_f rfl ?_
    | refine qa_d rfl ?_
    | refine Exists.intro 30 ?_)
  exact H
theorem qa_tR {post : Int32 → St0 → Prop} {q w x X o : Int32} (h0 : ¬ q < 0) (h1 : ¬ 15 ≤ q) (k24 : ¬ o = 24) (W : ∀ g : Nat → Int32, g 0 = x → g 1 = 0 → g 2 = 0 → g 3 = 0 → ∀ Q : St2 → Prop, (∀ u, qa_fin 1 3 0 0 u → Q u) → wpX_work Q (qa_u4 q w g) 0) (H : post 1 ()) : wL_lawOf_182 post 320 5120 q 0 w q x 1 1 o X 1 0 1 0 0 := by
  unfold wL_lawOf_182
  refine ⟨by decide, by decide, 31, 680, by decide, by decide, qa_init (qa_fileG h0 h1 (qa_f rfl (qa_t rfl (qa_spawn3 h0 h1 (fun g t g0 g1 g2 g3 ht => ?_)))))⟩
  subst ht
  refine qa_f rfl (qa_t rfl (qa_run3 (by decide) (W g g0 g1 g2 g3) (fun u hu => ?_)))
  obtain ⟨ub, nk, lv, fq, lq, ec, pc, a1, a2, a3, a4, a5, a6, a7, a8, a9, a10, a11, a12, a13, a14, a15, a16, a17, a18, a19, a20, a21, a22, a23, a24, a25, a26, a27, a28, a29, a30, a31⟩ := u
  obtain ⟨e1, rfl, rfl, e4⟩ := hu
  repeat (first
    | refine nm_e ?_
    | refine qa_v rfl ?_
    | refine br_t e1 ?_
    | refine br_t e4 ?_
    | refine br_f k24 ?_
    | refine qa_t rfl ?_
    | refine qa_f rfl ?_
    | refine qa_d rfl ?_
    | refine Exists.intro 30 ?_)
  exact H
theorem qa_tA {post : Int32 → St0 → Prop} {q w x X o : Int32} (h0 : ¬ q < 0) (h1 : ¬ 15 ≤ q) (k24 : ¬ o = 24) (W : ∀ g : Nat → Int32, g 0 = x → g 1 = 0 → g 2 = 0 → g 3 = 0 → ∀ Q : St2 → Prop, (∀ u, qa_fin 1 3 0 0 u → Q u) → wpX_work Q (qa_u4 q w g) 0) (H : post 1 ()) : wL_lawOf_182 post 320 5120 q 0 w q x 1 1 o X 0 1 1 0 0 := by
  unfold wL_lawOf_182
  refine ⟨by decide, by decide, 31, 680, by decide, by decide, qa_init (qa_fileG h0 h1 (qa_f rfl (qa_t rfl (qa_spawn3 h0 h1 (fun g t g0 g1 g2 g3 ht => ?_)))))⟩
  subst ht
  refine qa_f rfl (qa_t rfl (qa_run3 (by decide) (W g g0 g1 g2 g3) (fun u hu => ?_)))
  obtain ⟨ub, nk, lv, fq, lq, ec, pc, a1, a2, a3, a4, a5, a6, a7, a8, a9, a10, a11, a12, a13, a14, a15, a16, a17, a18, a19, a20, a21, a22, a23, a24, a25, a26, a27, a28, a29, a30, a31⟩ := u
  obtain ⟨e1, rfl, rfl, e4⟩ := hu
  repeat (first
    | refine nm_e ?_
    | refine qa_v rfl ?_
    | refine br_t e1 ?_
    | refine br_t e4 ?_
    | refine br_f k24 ?_
    | refine qa_t rfl ?_
    | refine qa_f rfl ?_
    | refine qa_d rfl ?_
    | refine Exists.intro 30 ?_)
  exact H
theorem qa_tY {post : Int32 → St0 → Prop} {q w x X o : Int32} (h0 : ¬ q < 0) (h1 : ¬ 15 ≤ q) (k0 : ¬ o = 0) (k25 : o = 25) (k24 : ¬ o = 24) (W : ∀ g : Nat → Int32, g 0 = x → g 1 = 0 → g 2 = 0 → g 3 = 0 → ∀ Q : St2 → Prop, (∀ u, qa_fin 1 1 0 0 u → Q u) → wpX_work Q (qa_u4 q w g) 0) (H : post 1 ()) : wL_lawOf_182 post 320 5120 q 0 w q x 1 1 o X 0 0 1 0 0 := by
  unfold wL_lawOf_182
  refine ⟨by decide, by decide, 31, 680, by decide, by decide, qa_init (qa_fileG h0 h1 (qa_f rfl (qa_t rfl (qa_spawn3 h0 h1 (fun g t g0 g1 g2 g3 ht => ?_)))))⟩
  subst ht
  refine qa_f rfl (qa_t rfl (qa_run3 (by decide) (W g g0 g1 g2 g3) (fun u hu => ?_)))
  obtain ⟨ub, nk, lv, fq, lq, ec, pc, a1, a2, a3, a4, a5, a6, a7, a8, a9, a10, a11, a12, a13, a14, a15, a16, a17, a18, a19, a20, a21, a22, a23, a24, a25, a26, a27, a28, a29, a30, a31⟩ := u
  obtain ⟨e1, rfl, rfl, e4⟩ := hu
  repeat (first
    | refine nm_e ?_
    | refine qa_v rfl ?_
    | refine br_t e1 ?_
    | refine br_t e4 ?_
    | refine br_f k0 ?_
    | refine br_t k25 ?_
    | refine br_f k24 ?_
    | refine qa_t rfl ?_
    | refine qa_f rfl ?_
    | refine qa_d rfl ?_
    | refine Exists.intro 30 ?_)
  exact H
theorem qa_tE {post : Int32 → St0 → Prop} {q w x X o : Int32} (h0 : ¬ q < 0) (h1 : ¬ 15 ≤ q) (k0 : o = 0) (k24 : ¬ o = 24) (W : ∀ g : Nat → Int32, g 0 = x → g 1 = 0 → g 2 = 0 → g 3 = 0 → ∀ Q : St2 → Prop, (∀ u, qa_fin 0 1 0 0 u → Q u) → wpX_work Q (qa_u4 q w g) 0) (H : post 1 ()) : wL_lawOf_182 post 320 5120 q 0 w q x 1 1 o X 0 0 0 0 0 := by
  unfold wL_lawOf_182
  refine ⟨by decide, by decide, 31, 680, by decide, by decide, qa_init (qa_fileG h0 h1 (qa_f rfl (qa_t rfl (qa_spawn3 h0 h1 (fun g t g0 g1 g2 g3 ht => ?_)))))⟩
  subst ht
  refine qa_f rfl (qa_t rfl (qa_run3 (by decide) (W g g0 g1 g2 g3) (fun u hu => ?_)))
  obtain ⟨ub, nk, lv, fq, lq, ec, pc, a1, a2, a3, a4, a5, a6, a7, a8, a9, a10, a11, a12, a13, a14, a15, a16, a17, a18, a19, a20, a21, a22, a23, a24, a25, a26, a27, a28, a29, a30, a31⟩ := u
  obtain ⟨e1, rfl, rfl, e4⟩ := hu
  repeat (first
    | refine nm_e ?_
    | refine qa_v rfl ?_
    | refine br_t e1 ?_
    | refine br_t e4 ?_
    | refine br_t k0 ?_
    | refine br_f k24 ?_
    | refine qa_t rfl ?_
    | refine qa_f rfl ?_
    | refine qa_d rfl ?_
    | refine Exists.intro 30 ?_)
  exact H
theorem qa_tP {post : Int32 → St0 → Prop} {q w x X o : Int32} (h0 : ¬ q < 0) (h1 : ¬ 15 ≤ q) (k0 : ¬ o = 0) (k25 : ¬ o = 25) (k24 : o = 24) (W : ∀ g : Nat → Int32, g 0 = x → g 1 = 0 → g 2 = 0 → g 3 = 0 → ∀ Q : St2 → Prop, (∀ u, qa_fin 0 2 1 X u → Q u) → wpX_work Q (qa_u4 q w g) 0) (H : post 1 ()) : wL_lawOf_182 post 320 5120 q 0 w q x 1 1 o X 0 0 0 0 0 := by
  unfold wL_lawOf_182
  refine ⟨by decide, by decide, 31, 680, by decide, by decide, qa_init (qa_fileG h0 h1 (qa_f rfl (qa_t rfl (qa_spawn3 h0 h1 (fun g t g0 g1 g2 g3 ht => ?_)))))⟩
  subst ht
  refine qa_f rfl (qa_t rfl (qa_run3 (by decide) (W g g0 g1 g2 g3) (fun u hu => ?_)))
  obtain ⟨ub, nk, lv, fq, lq, ec, pc, a1, a2, a3, a4, a5, a6, a7, a8, a9, a10, a11, a12, a13, a14, a15, a16, a17, a18, a19, a20, a21, a22, a23, a24, a25, a26, a27, a28, a29, a30, a31⟩ := u
  obtain ⟨e1, rfl, rfl, e4⟩ := hu
  repeat (first
    | refine nm_e ?_
    | refine qa_v rfl ?_
    | refine br_t e1 ?_
    | refine br_t e4 ?_
    | refine br_f k0 ?_
    | refine br_f k25 ?_
    | refine br_t k24 ?_
    | refine qa_t rfl ?_
    | refine qa_f rfl ?_
    | refine qa_d rfl ?_
    | refine Exists.intro 30 ?_)
  exact H
theorem qa_tN {post : Int32 → St0 → Prop} {q w x X o : Int32} (h0 : ¬ q < 0) (h1 : ¬ 15 ≤ q) (k0 : ¬ o = 0) (k25 : ¬ o = 25) (k24 : ¬ o = 24) (W : ∀ g : Nat → Int32, g 0 = x → g 1 = 0 → g 2 = 0 → g 3 = 0 → ∀ Q : St2 → Prop, (∀ u, qa_fin 0 2 0 0 u → Q u) → wpX_work Q (qa_u4 q w g) 0) (H : post 1 ()) : wL_lawOf_182 post 320 5120 q 0 w q x 1 1 o X 0 0 0 0 0 := by
  unfold wL_lawOf_182
  refine ⟨by decide, by decide, 31, 680, by decide, by decide, qa_init (qa_fileG h0 h1 (qa_f rfl (qa_t rfl (qa_spawn3 h0 h1 (fun g t g0 g1 g2 g3 ht => ?_)))))⟩
  subst ht
  refine qa_f rfl (qa_t rfl (qa_run3 (by decide) (W g g0 g1 g2 g3) (fun u hu => ?_)))
  obtain ⟨ub, nk, lv, fq, lq, ec, pc, a1, a2, a3, a4, a5, a6, a7, a8, a9, a10, a11, a12, a13, a14, a15, a16, a17, a18, a19, a20, a21, a22, a23, a24, a25, a26, a27, a28, a29, a30, a31⟩ := u
  obtain ⟨e1, rfl, rfl, e4⟩ := hu
  repeat (first
    | refine nm_e ?_
    | refine qa_v rfl ?_
    | refine br_t e1 ?_
    | refine br_t e4 ?_
    | refine br_f k0 ?_
    | refine br_f k25 ?_
    | refine br_f k24 ?_
    | refine qa_t rfl ?_
    | refine qa_f rfl ?_
    | refine qa_d rfl ?_
    | refine Exists.intro 30 ?_)
  exact H
end
section
theorem qa_lN {post : Int32 → St0 → Prop} {q w x N X o : Int32} (h0 : ¬ q < 0) (h1 : ¬ 15 ≤ q) (k0 : ¬ o = 0) (k7 : ¬ o = 7) (k8 : ¬ o = 8) (k9 : ¬ o = 9) (k12 : ¬ o = 12) (k24 : ¬ o = 24) (k25 : ¬ o = 25) (W : ∀ g : Nat → Int32, g 0 = x → g 1 = 0 → g 2 = 0 → g 3 = 0 → ∀ Q : St2 → Prop, (∀ u, qa_fin 0 2 0 0 u → Q u) → wpX_work Q (qa_u4 q w g) 0) (H : post 1 ()) : wL_lawOf_68 post 320 5120 q 0 w q x 1 1 o N X 0 0 := by
  repeat (first
    | exact qa_tN h0 h1 k0 k25 k24 W H
    | refine nm_e ?_
    | refine qa_v rfl ?_
    | refine br_f k0 ?_
    | refine br_f k7 ?_
    | refine br_f k8 ?_
    | refine br_f k9 ?_
    | refine br_f k12 ?_
    | refine br_f k24 ?_
    | refine br_f k25 ?_
    | refine qa_t rfl ?_
    | refine qa_f rfl ?_)
theorem qa_l7R {post : Int32 → St0 → Prop} {q w x N X : Int32} (h0 : ¬ q < 0) (h1 : ¬ 15 ≤ q) (x0 : X = 0) (n0 : N = 0) (W : ∀ g : Nat → Int32, g 0 = x → g 1 = 0 → g 2 = 0 → g 3 = 0 → ∀ Q : St2 → Prop, (∀ u, qa_fin 1 3 0 0 u → Q u) → wpX_work Q (qa_u4 q w g) 0) (H : post 1 ()) : wL_lawOf_68 post 320 5120 q 0 w q x 1 1 7 N X 0 0 := by
  repeat (first
    | exact qa_tR h0 h1 (by decide) W H
    | refine nm_e ?_
    | refine qa_v rfl ?_
    | refine br_t x0 ?_
    | refine br_t n0 ?_
    | refine qa_t rfl ?_
    | refine qa_f rfl ?_)
theorem qa_l7N {post : Int32 → St0 → Prop} {q w x N X : Int32} (h0 : ¬ q < 0) (h1 : ¬ 15 ≤ q) (x0 : X = 0) (n0 : ¬ N = 0) (W : ∀ g : Nat → Int32, g 0 = x → g 1 = 0 → g 2 = 0 → g 3 = 0 → ∀ Q : St2 → Prop, (∀ u, qa_fin 0 2 0 0 u → Q u) → wpX_work Q (qa_u4 q w g) 0) (H : post 1 ()) : wL_lawOf_68 post 320 5120 q 0 w q x 1 1 7 N X 0 0 := by
  repeat (first
    | exact qa_tN h0 h1 (by decide) (by decide) (by decide) W H
    | refine nm_e ?_
    | refine qa_v rfl ?_
    | refine br_t x0 ?_
    | refine br_f n0 ?_
    | refine qa_t rfl ?_
    | refine qa_f rfl ?_)
theorem qa_l7M {post : Int32 → St0 → Prop} {q w x N X : Int32} (h0 : ¬ q < 0) (h1 : ¬ 15 ≤ q) (x0 : ¬ X = 0) (W : ∀ g : Nat → Int32, g 0 = x → g 1 = 0 → g 2 = 0 → g 3 = 0 → ∀ Q : St2 → Prop, (∀ u, qa_fin 0 2 0 0 u → Q u) → wpX_work Q (qa_u4 q w g) 0) (H : post 1 ()) : wL_lawOf_68 post 320 5120 q 0 w q x 1 1 7 N X 0 0 := by
  repeat (first
    | exact qa_tN h0 h1 (by decide) (by decide) (by decide) W H
    | refine nm_e ?_
    | refine qa_v rfl ?_
    | refine br_f x0 ?_
    | refine qa_t rfl ?_
    | refine qa_f rfl ?_)
theorem qa_l8R {post : Int32 → St0 → Prop} {q w x N X : Int32} (h0 : ¬ q < 0) (h1 : ¬ 15 ≤ q) (n0 : N = 0) (W : ∀ g : Nat → Int32, g 0 = x → g 1 = 0 → g 2 = 0 → g 3 = 0 → ∀ Q : St2 → Prop, (∀ u, qa_fin 1 3 0 0 u → Q u) → wpX_work Q (qa_u4 q w g) 0) (H : post 1 ()) : wL_lawOf_68 post 320 5120 q 0 w q x 1 1 8 N X 0 0 := by
  repeat (first
    | exact qa_tR h0 h1 (by decide) W H
    | refine nm_e ?_
    | refine qa_v rfl ?_
    | refine br_t n0 ?_
    | refine qa_t rfl ?_
    | refine qa_f rfl ?_)
theorem qa_l8N {post : Int32 → St0 → Prop} {q w x N X : Int32} (h0 : ¬ q < 0) (h1 : ¬ 15 ≤ q) (n0 : ¬ N = 0) (W : ∀ g : Nat → Int32, g 0 = x → g 1 = 0 → g 2 = 0 → g 3 = 0 → ∀ Q : St2 → Prop, (∀ u, qa_fin 0 2 0 0 u → Q u) → wpX_work Q (qa_u4 q w g) 0) (H : post 1 ()) : wL_lawOf_68 post 320 5120 q 0 w q x 1 1 8 N X 0 0 := by
  repeat (first
    | exact qa_tN h0 h1 (by decide) (by decide) (by decide) W H
    | refine nm_e ?_
    | refine qa_v rfl ?_
    | refine br_f n0 ?_
    | refine qa_t rfl ?_
    | refine qa_f rfl ?_)
theorem qa_l9R {post : Int32 → St0 → Prop} {q w x N X : Int32} (h0 : ¬ q < 0) (h1 : ¬ 15 ≤ q) (x0 : ¬ X = 0) (n0 : N = 0) (W : ∀ g : Nat → Int32, g 0 = x → g 1 = 0 → g 2 = 0 → g 3 = 0 → ∀ Q : St2 → Prop, (∀ u, qa_fin 1 3 0 0 u → Q u) → wpX_work Q (qa_u4 q w g) 0) (H : post 1 ()) : wL_lawOf_68 post 320 5120 q 0 w q x 1 1 9 N X 0 0 := by
  repeat (first
    | exact qa_tR h0 h1 (by decide) W H
    | refine nm_e ?_
    | refine qa_v rfl ?_
    | refine br_f x0 ?_
    | refine br_t n0 ?_
    | refine qa_t rfl ?_
    | refine qa_f rfl ?_)
theorem qa_l9N {post : Int32 → St0 → Prop} {q w x N X : Int32} (h0 : ¬ q < 0) (h1 : ¬ 15 ≤ q) (x0 : ¬ X = 0) (n0 : ¬ N = 0) (W : ∀ g : Nat → Int32, g 0 = x → g 1 = 0 → g 2 = 0 → g 3 = 0 → ∀ Q : St2 → Prop, (∀ u, qa_fin 0 2 0 0 u → Q u) → wpX_work Q (qa_u4 q w g) 0) (H : post 1 ()) : wL_lawOf_68 post 320 5120 q 0 w q x 1 1 9 N X 0 0 := by
  repeat (first
    | exact qa_tN h0 h1 (by decide) (by decide) (by decide) W H
    | refine nm_e ?_
    | refine qa_v rfl ?_
    | refine br_f x0 ?_
    | refine br_f n0 ?_
    | refine qa_t rfl ?_
    | refine qa_f rfl ?_)
theorem qa_l9M {post : Int32 → St0 → Prop} {q w x N X : Int32} (h0 : ¬ q < 0) (h1 : ¬ 15 ≤ q) (x0 : X = 0) (W : ∀ g : Nat → Int32, g 0 = x → g 1 = 0 → g 2 = 0 → g 3 = 0 → ∀ Q : St2 → Prop, (∀ u, qa_fin 0 2 0 0 u → Q u) → wpX_work Q (qa_u4 q w g) 0) (H : post 1 ()) : wL_lawOf_68 post 320 5120 q 0 w q x 1 1 9 N X 0 0 := by
  repeat (first
    | exact qa_tN h0 h1 (by decide) (by decide) (by decide) W H
    | refine nm_e ?_
    | refine qa_v rfl ?_
    | refine br_t x0 ?_
    | refine qa_t rfl ?_
    | refine qa_f rfl ?_)
theorem qa_l12A {post : Int32 → St0 → Prop} {q w x N X : Int32} (h0 : ¬ q < 0) (h1 : ¬ 15 ≤ q) (xq : X = q) (W : ∀ g : Nat → Int32, g 0 = x → g 1 = 0 → g 2 = 0 → g 3 = 0 → ∀ Q : St2 → Prop, (∀ u, qa_fin 1 3 0 0 u → Q u) → wpX_work Q (qa_u4 q w g) 0) (H : post 1 ()) : wL_lawOf_68 post 320 5120 q 0 w q x 1 1 12 N X 0 0 := by
  repeat (first
    | exact qa_tA h0 h1 (by decide) W H
    | refine nm_e ?_
    | refine qa_v rfl ?_
    | refine br_t xq ?_
    | refine qa_t rfl ?_
    | refine qa_f rfl ?_)
theorem qa_l12N {post : Int32 → St0 → Prop} {q w x N X : Int32} (h0 : ¬ q < 0) (h1 : ¬ 15 ≤ q) (xq : ¬ X = q) (W : ∀ g : Nat → Int32, g 0 = x → g 1 = 0 → g 2 = 0 → g 3 = 0 → ∀ Q : St2 → Prop, (∀ u, qa_fin 0 2 0 0 u → Q u) → wpX_work Q (qa_u4 q w g) 0) (H : post 1 ()) : wL_lawOf_68 post 320 5120 q 0 w q x 1 1 12 N X 0 0 := by
  repeat (first
    | exact qa_tN h0 h1 (by decide) (by decide) (by decide) W H
    | refine nm_e ?_
    | refine qa_v rfl ?_
    | refine br_f xq ?_
    | refine qa_t rfl ?_
    | refine qa_f rfl ?_)
theorem qa_l0 {post : Int32 → St0 → Prop} {q w x N X : Int32} (h0 : ¬ q < 0) (h1 : ¬ 15 ≤ q)  (W : ∀ g : Nat → Int32, g 0 = x → g 1 = 0 → g 2 = 0 → g 3 = 0 → ∀ Q : St2 → Prop, (∀ u, qa_fin 0 1 0 0 u → Q u) → wpX_work Q (qa_u4 q w g) 0) (H : post 1 ()) : wL_lawOf_68 post 320 5120 q 0 w q x 1 1 0 N X 0 0 := by
  repeat (first
    | exact qa_tE h0 h1 (by decide) (by decide) W H
    | refine nm_e ?_
    | refine qa_v rfl ?_
    | refine qa_t rfl ?_
    | refine qa_f rfl ?_)
theorem qa_l25 {post : Int32 → St0 → Prop} {q w x N X : Int32} (h0 : ¬ q < 0) (h1 : ¬ 15 ≤ q)  (W : ∀ g : Nat → Int32, g 0 = x → g 1 = 0 → g 2 = 0 → g 3 = 0 → ∀ Q : St2 → Prop, (∀ u, qa_fin 1 1 0 0 u → Q u) → wpX_work Q (qa_u4 q w g) 0) (H : post 1 ()) : wL_lawOf_68 post 320 5120 q 0 w q x 1 1 25 N X 0 0 := by
  repeat (first
    | exact qa_tY h0 h1 (by decide) (by decide) (by decide) W H
    | refine nm_e ?_
    | refine qa_v rfl ?_
    | refine qa_t rfl ?_
    | refine qa_f rfl ?_)
theorem qa_l24 {post : Int32 → St0 → Prop} {q w x N X : Int32} (h0 : ¬ q < 0) (h1 : ¬ 15 ≤ q)  (W : ∀ g : Nat → Int32, g 0 = x → g 1 = 0 → g 2 = 0 → g 3 = 0 → ∀ Q : St2 → Prop, (∀ u, qa_fin 0 2 1 X u → Q u) → wpX_work Q (qa_u4 q w g) 0) (H : post 1 ()) : wL_lawOf_68 post 320 5120 q 0 w q x 1 1 24 N X 0 0 := by
  repeat (first
    | exact qa_tP h0 h1 (by decide) (by decide) (by decide) W H
    | refine nm_e ?_
    | refine qa_v rfl ?_
    | refine qa_t rfl ?_
    | refine qa_f rfl ?_)
theorem qa_no {post : Int32 → St0 → Prop} {q i w p x c : Int32} (T : ∀ o X : Int32, wL_lawOf_182 post 320 5120 q i w p x c 0 o X 0 0 0 0 0) : wL_lawOf_36 post 320 5120 q i w p x c 0 0 0 := by
  repeat' (first
    | exact T _ _
    | refine nm_e ?_
    | refine qa_t rfl ?_
    | refine qa_f rfl ?_
    | refine br_c (fun _ => ?_) (fun _ => ?_))
end
section
theorem qa_inA (v : Int32) : vp_in (4 * 0 + (v &&& 3)) 20 := by
  obtain ⟨j, hj, e⟩ := pk_andE v (m := 3) 2 (by decide)
  have e2 : (4 * 0 + nI j : Int32) = nI j := by grind
  rw [e, e2]
  exact vp_in_nI (by omega) (by decide)
theorem qa_inA1 (v : Int32) : vp_in (4 * 1 + (v &&& 3)) 20 := by
  obtain ⟨j, hj, e⟩ := pk_andE v (m := 3) 2 (by decide)
  have e2 : (4 * 1 + nI j : Int32) = nI (4 + j) := nI_add 4 j
  rw [e, e2]
  exact vp_in_nI (by omega) (by decide)
theorem qa_gX {g : Nat → Int32} {x : Int32} (v : Int32) (g0 : g 0 = x) (h : v &&& 3 = 0) : g (4 * 0 + (v &&& 3)).toNatClampNeg = x := by
  rw [h]
  exact g0
theorem qa_gO {g : Nat → Int32} (v : Int32) (g1 : g 1 = 0) (g2 : g 2 = 0) (g3 : g 3 = 0) (h : ¬ v &&& 3 = 0) : g (4 * 0 + (v &&& 3)).toNatClampNeg = 0 := by
  obtain ⟨j, hj, e⟩ := pk_andE v (m := 3) 2 (by decide)
  rw [e] at h ⊢
  match j, hj, h with
  | 0, _, h => exact absurd rfl h
  | 1, _, _ => exact g1
  | 2, _, _ => exact g2
  | 3, _, _ => exact g3
theorem qa_n1 {N : Int32} (h : ¬ N = 0) : N < 0 ∨ ¬ N < 1 := by
  by_cases h0 : N < 0
  · exact Or.inl h0
  · refine Or.inr (fun z => h ?_)
    obtain ⟨j, hj, rfl⟩ := nI_of h0
    have : j < 1 := (nI_ltI hj (by decide)).mp z
    have e : j = 0 := by omega
    rw [e]
    rfl
theorem qa_68 {post : Int32 → St0 → Prop} {q w x X : Int32} (h0 : ¬ q < 0) (h1 : ¬ 15 ≤ q) (hX : ∀ g : Nat → Int32, g 0 = x → g 1 = 0 → g 2 = 0 → g 3 = 0 → g (4 * 0 + ((w >>> ((5 : Int32) &&& 31)) &&& 3)).toNatClampNeg = X) (H : post 1 ()) : wL_lawOf_68 post 320 5120 q 0 w q x 1 1 (w &&& 31) (w >>> ((9 : Int32) &&& 31)) X 0 0 := by
  have hA := qa_inA (w >>> ((5 : Int32) &&& 31))
  have hB := qa_inA (w >>> ((7 : Int32) &&& 31))
  obtain ⟨k, hk, ho⟩ := pk_andE w (m := 31) 5 (by decide)
  rw [ho]
  match k, hk, ho with
  | 0, _, ho =>
    exact qa_l0 h0 h1 (fun g g0 g1 g2 g3 Q HQ => qa_w0 hA hB rfl rfl rfl (hX g g0 g1 g2 g3) rfl ho HQ) H
  | 1, _, ho =>
    exact qa_lN h0 h1 (by decide) (by decide) (by decide) (by decide) (by decide) (by decide) (by decide) (fun g g0 g1 g2 g3 Q HQ => qa_workM hB (by rw [ho]; decide) (fun Q HQ => qa_e1 hA hB rfl rfl rfl (hX g g0 g1 g2 g3) rfl ho HQ) HQ) H
  | 2, _, ho =>
    exact qa_lN h0 h1 (by decide) (by decide) (by decide) (by decide) (by decide) (by decide) (by decide) (fun g g0 g1 g2 g3 Q HQ => qa_workM hB (by rw [ho]; decide) (fun Q HQ => qa_e2 hA hB rfl rfl rfl (hX g g0 g1 g2 g3) rfl ho HQ) HQ) H
  | 3, _, ho =>
    exact qa_lN h0 h1 (by decide) (by decide) (by decide) (by decide) (by decide) (by decide) (by decide) (fun g g0 g1 g2 g3 Q HQ => qa_workM hB (by rw [ho]; decide) (fun Q HQ => qa_e3 hA hB rfl rfl rfl (hX g g0 g1 g2 g3) rfl ho HQ) HQ) H
  | 4, _, ho =>
    exact qa_lN h0 h1 (by decide) (by decide) (by decide) (by decide) (by decide) (by decide) (by decide) (fun g g0 g1 g2 g3 Q HQ => qa_workM hB (by rw [ho]; decide) (fun Q HQ => qa_e4 hA hB rfl rfl rfl (hX g g0 g1 g2 g3) rfl ho HQ) HQ) H
  | 5, _, ho =>
    exact qa_lN h0 h1 (by decide) (by decide) (by decide) (by decide) (by decide) (by decide) (by decide) (fun g g0 g1 g2 g3 Q HQ => qa_workM hB (by rw [ho]; decide) (fun Q HQ => qa_e5 hA hB rfl rfl rfl (hX g g0 g1 g2 g3) rfl ho HQ) HQ) H
  | 6, _, ho =>
    exact qa_lN h0 h1 (by decide) (by decide) (by decide) (by decide) (by decide) (by decide) (by decide) (fun g g0 g1 g2 g3 Q HQ => qa_workM hB (by rw [ho]; decide) (fun Q HQ => qa_e6 hA hB rfl rfl rfl (hX g g0 g1 g2 g3) rfl ho HQ) HQ) H
  | 7, _, ho =>
    by_cases x0 : X = 0
    · by_cases n0 : w >>> ((9 : Int32) &&& 31) = 0
      · exact qa_l7R h0 h1 x0 n0 (fun g g0 g1 g2 g3 Q HQ => qa_w7 hA hB rfl rfl rfl (hX g g0 g1 g2 g3) rfl ho x0 n0 HQ) H
      · exact qa_l7N h0 h1 x0 n0 (fun g g0 g1 g2 g3 Q HQ => qa_workM hB (by rw [ho]; decide) (fun Q HQ => qa_e7 hA hB rfl rfl rfl (hX g g0 g1 g2 g3) rfl ho (fun _ => qa_n1 n0) HQ) HQ) H
    · exact qa_l7M h0 h1 x0 (fun g g0 g1 g2 g3 Q HQ => qa_workM hB (by rw [ho]; decide) (fun Q HQ => qa_e7 hA hB rfl rfl rfl (hX g g0 g1 g2 g3) rfl ho (fun z => absurd z x0) HQ) HQ) H
  | 8, _, ho =>
    by_cases n0 : w >>> ((9 : Int32) &&& 31) = 0
    · exact qa_l8R h0 h1 n0 (fun g g0 g1 g2 g3 Q HQ => qa_w8 hA hB rfl rfl rfl (hX g g0 g1 g2 g3) rfl ho n0 HQ) H
    · exact qa_l8N h0 h1 n0 (fun g g0 g1 g2 g3 Q HQ => qa_workM hB (by rw [ho]; decide) (fun Q HQ => qa_e8 hA hB rfl rfl rfl (hX g g0 g1 g2 g3) rfl ho (qa_n1 n0) HQ) HQ) H
  | 9, _, ho =>
    by_cases x0 : X = 0
    · exact qa_l9M h0 h1 x0 (fun g g0 g1 g2 g3 Q HQ => qa_workM hB (by rw [ho]; decide) (fun Q HQ => qa_e9 hA hB rfl rfl rfl (hX g g0 g1 g2 g3) rfl ho (fun z => absurd x0 z) HQ) HQ) H
    · by_cases n0 : w >>> ((9 : Int32) &&& 31) = 0
      · exact qa_l9R h0 h1 x0 n0 (fun g g0 g1 g2 g3 Q HQ => qa_w9 hA hB rfl rfl rfl (hX g g0 g1 g2 g3) rfl ho x0 n0 HQ) H
      · exact qa_l9N h0 h1 x0 n0 (fun g g0 g1 g2 g3 Q HQ => qa_workM hB (by rw [ho]; decide) (fun Q HQ => qa_e9 hA hB rfl rfl rfl (hX g g0 g1 g2 g3) rfl ho (fun _ => qa_n1 n0) HQ) HQ) H
  | 10, _, ho =>
    exact qa_lN h0 h1 (by decide) (by decide) (by decide) (by decide) (by decide) (by decide) (by decide) (fun g g0 g1 g2 g3 Q HQ => qa_w10 hA hB rfl rfl rfl (hX g g0 g1 g2 g3) rfl ho (qa_inA1 _) HQ) H
  | 11, _, ho =>
    exact qa_lN h0 h1 (by decide) (by decide) (by decide) (by decide) (by decide) (by decide) (by decide) (fun g g0 g1 g2 g3 Q HQ => qa_workM hB (by rw [ho]; decide) (fun Q HQ => qa_e11 hA hB rfl rfl rfl (hX g g0 g1 g2 g3) rfl ho HQ) HQ) H
  | 12, _, ho =>
    by_cases xq : X = q
    · exact qa_l12A h0 h1 xq (fun g g0 g1 g2 g3 Q HQ => qa_w12 hA hB rfl rfl rfl (hX g g0 g1 g2 g3) rfl ho (by rw [xq]; exact h0) (by rw [xq]; exact h1) xq.symm HQ) H
    · exact qa_l12N h0 h1 xq (fun g g0 g1 g2 g3 Q HQ => qa_workM hB (by rw [ho]; decide) (fun Q HQ => qa_e12 hA hB rfl rfl rfl (hX g g0 g1 g2 g3) rfl ho (fun z => xq z.symm) HQ) HQ) H
  | 13, _, ho =>
    exact qa_lN h0 h1 (by decide) (by decide) (by decide) (by decide) (by decide) (by decide) (by decide) (fun g g0 g1 g2 g3 Q HQ => qa_w13 hA hB hB rfl rfl rfl (hX g g0 g1 g2 g3) rfl ho HQ) H
  | 14, _, ho =>
    exact qa_lN h0 h1 (by decide) (by decide) (by decide) (by decide) (by decide) (by decide) (by decide) (fun g g0 g1 g2 g3 Q HQ => qa_workM hB (by rw [ho]; decide) (fun Q HQ => qa_e14 hA hB rfl rfl rfl (hX g g0 g1 g2 g3) rfl ho HQ) HQ) H
  | 15, _, ho =>
    exact qa_lN h0 h1 (by decide) (by decide) (by decide) (by decide) (by decide) (by decide) (by decide) (fun g g0 g1 g2 g3 Q HQ => qa_workM hB (by rw [ho]; decide) (fun Q HQ => qa_e15 hA hB rfl rfl rfl (hX g g0 g1 g2 g3) rfl ho HQ) HQ) H
  | 16, _, ho =>
    exact qa_lN h0 h1 (by decide) (by decide) (by decide) (by decide) (by decide) (by decide) (by decide) (fun g g0 g1 g2 g3 Q HQ => qa_workM hB (by rw [ho]; decide) (fun Q HQ => qa_e16 hA hB rfl rfl rfl (hX g g0 g1 g2 g3) rfl ho HQ) HQ) H
  | 17, _, ho =>
    exact qa_lN h0 h1 (by decide) (by decide) (by decide) (by decide) (by decide) (by decide) (by decide) (fun g g0 g1 g2 g3 Q HQ => qa_w17 hA hB rfl rfl rfl (hX g g0 g1 g2 g3) rfl ho HQ) H
  | 18, _, ho =>
    exact qa_lN h0 h1 (by decide) (by decide) (by decide) (by decide) (by decide) (by decide) (by decide) (fun g g0 g1 g2 g3 Q HQ => qa_workM hB (by rw [ho]; decide) (fun Q HQ => qa_e18 hA hB rfl rfl rfl (hX g g0 g1 g2 g3) rfl ho HQ) HQ) H
  | 19, _, ho =>
    exact qa_lN h0 h1 (by decide) (by decide) (by decide) (by decide) (by decide) (by decide) (by decide) (fun g g0 g1 g2 g3 Q HQ => qa_workM hB (by rw [ho]; decide) (fun Q HQ => qa_e19 hA hB rfl rfl rfl (hX g g0 g1 g2 g3) rfl ho HQ) HQ) H
  | 20, _, ho =>
    exact qa_lN h0 h1 (by decide) (by decide) (by decide) (by decide) (by decide) (by decide) (by decide) (fun g g0 g1 g2 g3 Q HQ => qa_workM hB (by rw [ho]; decide) (fun Q HQ => qa_e20 hA hB rfl rfl rfl (hX g g0 g1 g2 g3) rfl ho HQ) HQ) H
  | 21, _, ho =>
    exact qa_lN h0 h1 (by decide) (by decide) (by decide) (by decide) (by decide) (by decide) (by decide) (fun g g0 g1 g2 g3 Q HQ => qa_workM hB (by rw [ho]; decide) (fun Q HQ => qa_e21 hA hB rfl rfl rfl (hX g g0 g1 g2 g3) rfl ho HQ) HQ) H
  | 22, _, ho =>
    exact qa_lN h0 h1 (by decide) (by decide) (by decide) (by decide) (by decide) (by decide) (by decide) (fun g g0 g1 g2 g3 Q HQ => qa_workM hB (by rw [ho]; decide) (fun Q HQ => qa_e22 hA hB rfl rfl rfl (hX g g0 g1 g2 g3) rfl ho HQ) HQ) H
  | 23, _, ho =>
    exact qa_lN h0 h1 (by decide) (by decide) (by decide) (by decide) (by decide) (by decide) (by decide) (fun g g0 g1 g2 g3 Q HQ => qa_workM hB (by rw [ho]; decide) (fun Q HQ => qa_e23 hA hB rfl rfl rfl (hX g g0 g1 g2 g3) rfl ho HQ) HQ) H
  | 24, _, ho =>
    exact qa_l24 h0 h1 (fun g g0 g1 g2 g3 Q HQ => qa_workM hB (by rw [ho]; decide) (fun Q HQ => qa_e24 hA hB rfl rfl rfl (hX g g0 g1 g2 g3) rfl ho HQ) HQ) H
  | 25, _, ho =>
    exact qa_l25 h0 h1 (fun g g0 g1 g2 g3 Q HQ => qa_w25 hA hB rfl rfl rfl (hX g g0 g1 g2 g3) rfl ho HQ) H
  | 26, _, ho =>
    exact qa_lN h0 h1 (by decide) (by decide) (by decide) (by decide) (by decide) (by decide) (by decide) (fun g g0 g1 g2 g3 Q HQ => qa_workM hB (by rw [ho]; decide) (fun Q HQ => qa_e26 hA hB rfl rfl rfl (hX g g0 g1 g2 g3) rfl ho HQ) HQ) H
  | 27, _, ho =>
    exact qa_lN h0 h1 (by decide) (by decide) (by decide) (by decide) (by decide) (by decide) (by decide) (fun g g0 g1 g2 g3 Q HQ => qa_workM hB (by rw [ho]; decide) (fun Q HQ => qa_e27 hA hB rfl rfl rfl (hX g g0 g1 g2 g3) rfl ho HQ) HQ) H
  | 28, _, ho =>
    exact qa_lN h0 h1 (by decide) (by decide) (by decide) (by decide) (by decide) (by decide) (by decide) (fun g g0 g1 g2 g3 Q HQ => qa_workM hB (by rw [ho]; decide) (fun Q HQ => qa_e28 hA hB rfl rfl rfl (hX g g0 g1 g2 g3) rfl ho HQ) HQ) H
  | 29, _, ho =>
    exact qa_lN h0 h1 (by decide) (by decide) (by decide) (by decide) (by decide) (by decide) (by decide) (fun g g0 g1 g2 g3 Q HQ => qa_workM hB (by rw [ho]; decide) (fun Q HQ => qa_e29 hA hB rfl rfl rfl (hX g g0 g1 g2 g3) rfl ho HQ) HQ) H
  | 30, _, ho =>
    exact qa_lN h0 h1 (by decide) (by decide) (by decide) (by decide) (by decide) (by decide) (by decide) (fun g g0 g1 g2 g3 Q HQ => qa_workM hB (by rw [ho]; decide) (fun Q HQ => qa_e30 hA hB rfl rfl rfl (hX g g0 g1 g2 g3) rfl ho HQ) HQ) H
  | 31, _, ho =>
    exact qa_lN h0 h1 (by decide) (by decide) (by decide) (by decide) (by decide) (by decide) (by decide) (fun g g0 g1 g2 g3 Q HQ => qa_workM hB (by rw [ho]; decide) (fun Q HQ => qa_e31 hA hB rfl rfl rfl (hX g g0 g1 g2 g3) rfl ho HQ) HQ) H
  | n + 32, hk, _ => exact absurd hk (by omega)
theorem qa_36 {post : Int32 → St0 → Prop} {q w x : Int32} (h0 : ¬ q < 0) (h1 : ¬ 15 ≤ q) (H : post 1 ()) : wL_lawOf_36 post 320 5120 q 0 w q x 1 1 0 0 := by
  refine nm_e (nm_e (nm_e ?_))
  exact br_c (fun z => qa_68 h0 h1 (fun g g0 g1 g2 g3 => qa_gX _ g0 z) H) (fun z => qa_68 h0 h1 (fun g g0 g1 g2 g3 => qa_gO _ g1 g2 g3 z) H)
theorem qa_lawOf {post : Int32 → St0 → Prop} {q i w p x : Int32} (H : post 1 ()) : wpL_lawOf post 320 5120 () q i w p x := by
  refine br_c (fun z => qa_t rfl (qa_no (fun o X => qa_tBad (Or.inl z) H))) (fun h0 => ?_)
  refine br_c (fun z => qa_t rfl (qa_no (fun o X => qa_tBad (Or.inr (Or.inl z)) H))) (fun h1 => ?_)
  have h2 := qa_14 h1
  refine br_c (fun z => ?_) (fun z => qa_t rfl (qa_no (fun o X => qa_tBad (Or.inr (Or.inr z)) H)))
  subst z
  refine qa_f rfl (br_c (fun z => ?_) (fun z => qa_no (fun o X => qa_tNot h0 h2 (fun y => z y.symm) H)))
  subst z
  exact qa_36 h0 h2 H
theorem qa_cell {post : Int32 → Prop} {L : Nat} {xs : Nat → Int32} (j : Nat) (hj : j < 5) (hL : L ≤ 5) (H : ∀ r, post r) : wpL_cellAt post L xs () (nI j) :=
  pk_le L j (fun _ => H _) (fun z => ⟨pk_in j L z, H _⟩)
end
section
theorem i_vc (xs : Nat → Int32) (L : Nat) (hL : L ≤ 5) : wpL_law (fun r => r = 1) L xs :=
  qa_cell 0 (by decide) hL (fun _ => qa_cell 1 (by decide) hL (fun _ => qa_cell 2 (by decide) hL (fun _ => qa_cell 3 (by decide) hL (fun _ => qa_cell 4 (by decide) hL (fun _ => ⟨320, 5120, by decide, by decide, qa_lawOf rfl⟩)))))
end
