section
/-- a rule: kind, from, into, left, right -/
abbrev rc_R : Type := Nat × Nat × Nat × Nat × Nat
/-- a memory: before, held, handed -/
abbrev rc_M : Type := Nat × Nat × Nat
def rc_ho (l : Nat) (p : Nat × List Nat) : Nat × List Nat := if p.1 < 12 then (p.1 + 1, p.2 ++ [l]) else p
/-- both sides allow -/
def rc_hit (r : rc_R) (b y : Nat) : Bool := r.2.2.2.1.testBit b && r.2.2.2.2.testBit y
/-- what is handed on, and how many -/
def rc_mo (r : rc_R) (m : rc_M) (y : Nat) (p : Nat × List Nat) : Nat × List Nat :=
  if r.1 = 2 then (if y = 4 then (if rc_hit r m.1 y = true then rc_ho r.2.2.1 p else p) else rc_ho y (if rc_hit r m.1 y = true then rc_ho r.2.2.1 p else p))
  else if m.2.1 = 5 then p
  else if m.2.1 = r.2.1 ∧ rc_hit r m.1 y = true then (if r.1 = 0 then rc_ho r.2.2.1 p else p) else rc_ho m.2.1 p
def rc_mb (r : rc_R) (m : rc_M) (y : Nat) : Nat := if r.1 = 2 then y else if m.2.1 = 5 then m.1 else m.2.1
def rc_mh (r : rc_R) (m : rc_M) (y : Nat) : Nat := if r.1 = 2 then m.2.1 else if y = 4 then 5 else y
def rc_meet (r : rc_R) (m : rc_M) (y : Nat) (o : List Nat) : rc_M × List Nat := ((rc_mb r m y, rc_mh r m y, (rc_mo r m y (m.2.2, o)).1), (rc_mo r m y (m.2.2, o)).2)
def rc_fold (r : rc_R) : rc_M → List Nat → List Nat → rc_M × List Nat
  | m, [], o => (m, o)
  | m, y :: ys, o => rc_fold r (rc_meet r m y o).1 ys (rc_meet r m y o).2
def rc_pass (r : rc_R) (m : rc_M) (ls : List Nat) (last : Bool) : rc_M × List Nat :=
  if last = true then rc_meet r (rc_fold r m ls []).1 4 (rc_fold r m ls []).2 else rc_fold r m ls []
def rc_line : List rc_R → List rc_M → List Nat → Bool → List rc_M × List Nat
  | r :: rs, m :: ms, ls, last => ((rc_pass r m ls last).1 :: (rc_line rs ms (rc_pass r m ls last).2 last).1, (rc_line rs ms (rc_pass r m ls last).2 last).2)
  | _, _, ls, _ => ([], ls)
/-- what came out is held against the word: how much came out, and whether it is wanted -/
def rc_emit (W : List Nat) : Nat → Bool → List Nat → Nat × Bool
  | r, w, [] => (r, w)
  | r, w, l :: ls => if r < 12 then rc_emit W (r + 1) (w && decide (W[r]? = some l)) ls else rc_emit W r w ls
def rc_words : Nat → List (List Nat)
  | 0 => [[]]
  | n + 1 => (rc_words n).map (fun u => 0 :: u) ++ ((rc_words n).map (fun u => 1 :: u) ++ ((rc_words n).map (fun u => 2 :: u) ++ (rc_words n).map (fun u => 3 :: u)))
def rc_code (l : List Nat) : Nat := l.foldl (fun c d => 4 * c + d) 1
def rc_Rv (r : rc_R) : Prop := r.1 < 3 ∧ r.2.1 < 4 ∧ r.2.2.1 < 4 ∧ r.2.2.2.1 < 32 ∧ r.2.2.2.2 < 32
def rc_Mv (m : rc_M) : Prop := m.1 < 5 ∧ (m.2.1 < 4 ∨ m.2.1 = 5) ∧ m.2.2 ≤ 12
/-- a fresh line of k rules -/
def rc_new (k : Nat) : List rc_M := List.replicate k (4, 5, 0)
/-- what a word becomes -/
def rc_F (rs : List rc_R) (u : List Nat) : List Nat := (rc_line rs (rc_new rs.length) u true).2.take 12
/-- the count by one letter, what follows counted by g -/
def rc_w (g : List rc_M → Nat → Nat) (rs : List rc_R) (W : List Nat) (ms : List rc_M) (r l : Nat) : Nat :=
  if (rc_emit W r true (rc_line rs ms [l] false).2).2 = true then g (rc_line rs ms [l] false).1 (rc_emit W r true (rc_line rs ms [l] false).2).1 else 0
/-- the count from a memory -/
def rc_G (rs : List rc_R) (W : List Nat) : Nat → List rc_M → Nat → Nat
  | 0 => fun ms r => if (rc_emit W r true (rc_line rs ms [] true).2).2 = true ∧ (rc_emit W r true (rc_line rs ms [] true).2).1 = W.length then 1 else 0
  | k + 1 => fun ms r => rc_w (rc_G rs W k) rs W ms r 0 + (rc_w (rc_G rs W k) rs W ms r 1 + (rc_w (rc_G rs W k) rs W ms r 2 + rc_w (rc_G rs W k) rs W ms r 3))
/-- what is sought: the word as the whole result -/
def rc_P (rs : List rc_R) (W : List Nat) (ms : List rc_M) (r : Nat) (u : List Nat) : Bool := decide ((rc_emit W r true (rc_line rs ms u true).2).2 = true ∧ (rc_emit W r true (rc_line rs ms u true).2).1 = W.length)
/-- the words sought, in order -/
def rc_Q (rs : List rc_R) (W : List Nat) (k : Nat) (ms : List rc_M) (r : Nat) : List (List Nat) := (rc_words k).filter (rc_P rs W ms r)

/-! accumulators -/
theorem rc_ho_acc (l d : Nat) (a o : List Nat) : rc_ho l (d, a ++ o) = ((rc_ho l (d, o)).1, a ++ (rc_ho l (d, o)).2) := by
  unfold rc_ho
  by_cases h : d < 12
  · simp only [h, if_true, List.append_assoc]
  · simp only [h, if_false]
theorem rc_ho_acc' (l : Nat) (a : List Nat) (p : Nat × List Nat) : rc_ho l (p.1, a ++ p.2) = ((rc_ho l p).1, a ++ (rc_ho l p).2) := rc_ho_acc l p.1 a p.2
theorem rc_mo_acc (r : rc_R) (m : rc_M) (y : Nat) (a : List Nat) (p : Nat × List Nat) : rc_mo r m y (p.1, a ++ p.2) = ((rc_mo r m y p).1, a ++ (rc_mo r m y p).2) := by
  unfold rc_mo
  by_cases h1 : r.1 = 2
  · simp only [h1, if_true]
    by_cases h2 : y = 4
    · by_cases h3 : rc_hit r m.1 y = true
      · simp only [h2, if_true] at h3 ⊢
        simp only [h3, if_true]
        exact rc_ho_acc' _ a p
      · simp only [h2, if_true] at h3 ⊢
        simp only [h3, if_false]
        rfl
    · by_cases h3 : rc_hit r m.1 y = true
      · simp only [h2, h3, if_true, if_false]
        rw [rc_ho_acc', rc_ho_acc']
      · simp only [h2, h3, if_false]
        exact rc_ho_acc' _ a p
  · simp only [h1, if_false]
    by_cases h2 : m.2.1 = 5
    · simp only [h2, if_true]
    · simp only [h2, if_false]
      by_cases h3 : m.2.1 = r.2.1 ∧ rc_hit r m.1 y = true
      · simp only [h3, and_self, if_true]
        by_cases h4 : r.1 = 0
        · simp only [h4, if_true]
          exact rc_ho_acc' _ a p
        · simp only [h4, if_false]
      · rw [if_neg h3, if_neg h3]
        exact rc_ho_acc' _ a p
theorem rc_meet_acc (r : rc_R) (m : rc_M) (y : Nat) (a o : List Nat) : rc_meet r m y (a ++ o) = ((rc_meet r m y o).1, a ++ (rc_meet r m y o).2) := by
  unfold rc_meet
  rw [rc_mo_acc r m y a (m.2.2, o)]
theorem rc_fold_acc (r : rc_R) (ls : List Nat) : ∀ (m : rc_M) (a o : List Nat), rc_fold r m ls (a ++ o) = ((rc_fold r m ls o).1, a ++ (rc_fold r m ls o).2) := by
  induction ls with
  | nil => intro m a o; rfl
  | cons y ys ih =>
    intro m a o
    show rc_fold r (rc_meet r m y (a ++ o)).1 ys (rc_meet r m y (a ++ o)).2 = _
    rw [rc_meet_acc]
    exact ih _ a _
theorem rc_fold_app (r : rc_R) (l1 l2 : List Nat) : ∀ (m : rc_M) (o : List Nat), rc_fold r m (l1 ++ l2) o = rc_fold r (rc_fold r m l1 o).1 l2 (rc_fold r m l1 o).2 := by
  induction l1 with
  | nil => intro m o; rfl
  | cons y ys ih => intro m o; exact ih _ _
theorem rc_pass_app (r : rc_R) (m : rc_M) (l1 l2 : List Nat) (last : Bool) : rc_pass r m (l1 ++ l2) last = ((rc_pass r (rc_pass r m l1 false).1 l2 last).1, (rc_pass r m l1 false).2 ++ (rc_pass r (rc_pass r m l1 false).1 l2 last).2) := by
  have e0 : rc_pass r m l1 false = rc_fold r m l1 [] := rfl
  have e1 : rc_fold r m (l1 ++ l2) [] = ((rc_fold r (rc_fold r m l1 []).1 l2 []).1, (rc_fold r m l1 []).2 ++ (rc_fold r (rc_fold r m l1 []).1 l2 []).2) := by
    rw [rc_fold_app]
    have h := rc_fold_acc r l2 (rc_fold r m l1 []).1 (rc_fold r m l1 []).2 []
    rw [List.append_nil] at h
    exact h
  rw [e0]
  cases last with
  | false => exact e1
  | true =>
    show rc_meet r (rc_fold r m (l1 ++ l2) []).1 4 (rc_fold r m (l1 ++ l2) []).2 = _
    rw [e1]
    exact rc_meet_acc r _ 4 _ _
theorem rc_line_app (rs : List rc_R) : ∀ (ms : List rc_M) (l1 l2 : List Nat) (last : Bool), rs.length = ms.length → rc_line rs ms (l1 ++ l2) last = ((rc_line rs (rc_line rs ms l1 false).1 l2 last).1, (rc_line rs ms l1 false).2 ++ (rc_line rs (rc_line rs ms l1 false).1 l2 last).2) := by
  induction rs with
  | nil => intro ms l1 l2 last _; rfl
  | cons r rs ih =>
    intro ms l1 l2 last h
    cases ms with
    | nil => exact absurd h (by simp)
    | cons m ms =>
      have h' : rs.length = ms.length := by simpa using h
      show ((rc_pass r m (l1 ++ l2) last).1 :: (rc_line rs ms (rc_pass r m (l1 ++ l2) last).2 last).1, (rc_line rs ms (rc_pass r m (l1 ++ l2) last).2 last).2) = _
      rw [rc_pass_app]
      dsimp only
      rw [ih ms _ _ last h']
      rfl
theorem rc_line_len (rs : List rc_R) : ∀ (ms : List rc_M) (ls : List Nat) (last : Bool), rs.length = ms.length → (rc_line rs ms ls last).1.length = rs.length := by
  induction rs with
  | nil => intro ms ls last _; rfl
  | cons r rs ih =>
    intro ms ls last h
    cases ms with
    | nil => exact absurd h (by simp)
    | cons m ms =>
      have h' : rs.length = ms.length := by simpa using h
      show ((rc_pass r m ls last).1 :: (rc_line rs ms (rc_pass r m ls last).2 last).1).length = _
      rw [List.length_cons, ih ms _ last h', List.length_cons]

/-! validity -/
theorem rc_ho_v {l : Nat} {p : Nat × List Nat} (h : p.1 ≤ 12) (h2 : p.2.length ≤ p.1) : (rc_ho l p).1 ≤ 12 ∧ (rc_ho l p).2.length ≤ (rc_ho l p).1 := by
  unfold rc_ho
  by_cases c : p.1 < 12
  · simp only [c, if_true, List.length_append, List.length_singleton]
    omega
  · simp only [c, if_false]
    exact ⟨h, h2⟩
theorem rc_mo_v {r : rc_R} {m : rc_M} {y : Nat} {p : Nat × List Nat} (h : p.1 ≤ 12) (h2 : p.2.length ≤ p.1) : (rc_mo r m y p).1 ≤ 12 ∧ (rc_mo r m y p).2.length ≤ (rc_mo r m y p).1 := by
  have k := rc_ho_v (l := r.2.2.1) h h2
  unfold rc_mo
  split
  · split
    · split
      · exact k
      · exact ⟨h, h2⟩
    · split
      · exact rc_ho_v k.1 k.2
      · exact rc_ho_v h h2
  · split
    · exact ⟨h, h2⟩
    · split
      · split
        · exact k
        · exact ⟨h, h2⟩
      · exact rc_ho_v h h2
theorem rc_meet_v {r : rc_R} {m : rc_M} {y : Nat} {o : List Nat} (hm : rc_Mv m) (hy : y < 5) (ho : o.length ≤ m.2.2) : rc_Mv (rc_meet r m y o).1 ∧ (rc_meet r m y o).2.length ≤ (rc_meet r m y o).1.2.2 := by
  have k := rc_mo_v (r := r) (m := m) (y := y) (p := (m.2.2, o)) hm.2.2 ho
  refine ⟨⟨?_, ?_, k.1⟩, k.2⟩
  · show rc_mb r m y < 5
    unfold rc_mb
    have := hm.1
    have := hm.2.1
    split
    · exact hy
    · split <;> omega
  · show rc_mh r m y < 4 ∨ rc_mh r m y = 5
    unfold rc_mh
    split
    · exact hm.2.1
    · split <;> omega
theorem rc_fold_v {r : rc_R} (ls : List Nat) : ∀ {m : rc_M} {o : List Nat}, rc_Mv m → (∀ y, y ∈ ls → y < 5) → o.length ≤ m.2.2 → rc_Mv (rc_fold r m ls o).1 ∧ (rc_fold r m ls o).2.length ≤ (rc_fold r m ls o).1.2.2 := by
  induction ls with
  | nil => intro m o hm _ ho; exact ⟨hm, ho⟩
  | cons y ys ih =>
    intro m o hm hy ho
    have k := rc_meet_v (r := r) (o := o) hm (hy y (by simp)) ho
    exact ih k.1 (fun z hz => hy z (by simp [hz])) k.2
theorem rc_pass_v {r : rc_R} {m : rc_M} {ls : List Nat} {last : Bool} (hm : rc_Mv m) (hl : ∀ y, y ∈ ls → y < 5) : rc_Mv (rc_pass r m ls last).1 ∧ (rc_pass r m ls last).2.length ≤ (rc_pass r m ls last).1.2.2 := by
  have k := rc_fold_v (r := r) (o := []) ls hm hl (Nat.zero_le _)
  cases last with
  | false => exact k
  | true => exact rc_meet_v k.1 (by omega) k.2
/-! letters -/
theorem rc_ho_l {l : Nat} {p : Nat × List Nat} (hl : l < 4) (h : ∀ y, y ∈ p.2 → y < 4) : ∀ y, y ∈ (rc_ho l p).2 → y < 4 := by
  unfold rc_ho
  intro y hy
  split at hy
  · rcases List.mem_append.mp hy with z | z
    · exact h y z
    · rw [List.mem_singleton.mp z]; exact hl
  · exact h y hy
theorem rc_mo_l {r : rc_R} {m : rc_M} {y : Nat} {p : Nat × List Nat} (hr : rc_Rv r) (hm : rc_Mv m) (hy : y < 5) (h : ∀ z, z ∈ p.2 → z < 4) : ∀ z, z ∈ (rc_mo r m y p).2 → z < 4 := by
  have k := rc_ho_l (l := r.2.2.1) hr.2.2.1 h
  unfold rc_mo
  split
  · split
    · split
      · exact k
      · exact h
    · have hy' : y < 4 := by omega
      split
      · exact rc_ho_l hy' k
      · exact rc_ho_l hy' h
  · split
    · exact h
    · have hm' : m.2.1 < 4 := by have := hm.2.1; omega
      split
      · split
        · exact k
        · exact h
      · exact rc_ho_l hm' h
theorem rc_fold_l {r : rc_R} (hr : rc_Rv r) (ls : List Nat) : ∀ {m : rc_M} {o : List Nat}, rc_Mv m → (∀ y, y ∈ ls → y < 5) → o.length ≤ m.2.2 → (∀ z, z ∈ o → z < 4) → ∀ z, z ∈ (rc_fold r m ls o).2 → z < 4 := by
  induction ls with
  | nil => intro m o _ _ _ h; exact h
  | cons y ys ih =>
    intro m o hm hy ho h
    have k := rc_meet_v (r := r) (o := o) hm (hy y (by simp)) ho
    exact ih k.1 (fun z hz => hy z (by simp [hz])) k.2 (rc_mo_l hr hm (hy y (by simp)) h)
theorem rc_pass_l {r : rc_R} {m : rc_M} {ls : List Nat} {last : Bool} (hr : rc_Rv r) (hm : rc_Mv m) (hl : ∀ y, y ∈ ls → y < 5) : ∀ z, z ∈ (rc_pass r m ls last).2 → z < 4 := by
  have k := rc_fold_v (r := r) (o := []) ls hm hl (Nat.zero_le _)
  have q := rc_fold_l hr (o := []) ls hm hl (Nat.zero_le _) (fun z hz => absurd hz (by simp))
  cases last with
  | false => exact q
  | true => exact rc_mo_l hr k.1 (by omega) q
theorem rc_line_v (rs : List rc_R) : ∀ (ms : List rc_M) (ls : List Nat) (last : Bool), rs.length = ms.length → (∀ r, r ∈ rs → rc_Rv r) → (∀ m, m ∈ ms → rc_Mv m) → (∀ y, y ∈ ls → y < 4) → (∀ m, m ∈ (rc_line rs ms ls last).1 → rc_Mv m) ∧ (∀ y, y ∈ (rc_line rs ms ls last).2 → y < 4) := by
  induction rs with
  | nil => intro ms ls last _ _ _ hl; exact ⟨fun m hm => absurd hm (by simp [rc_line]), hl⟩
  | cons r rs ih =>
    intro ms ls last h hr hm hl
    cases ms with
    | nil => exact absurd h (by simp)
    | cons m ms =>
      have h' : rs.length = ms.length := by simpa using h
      have hl5 : ∀ y, y ∈ ls → y < 5 := fun y hy => Nat.lt_succ_of_lt (hl y hy)
      have hr0 : rc_Rv r := hr r (by simp)
      have hm0 : rc_Mv m := hm m (by simp)
      have q := ih ms (rc_pass r m ls last).2 last h' (fun r' k => hr r' (by simp [k])) (fun m' k => hm m' (by simp [k])) (rc_pass_l hr0 hm0 hl5)
      refine ⟨fun m' k => ?_, q.2⟩
      have k' : m' ∈ (rc_pass r m ls last).1 :: (rc_line rs ms (rc_pass r m ls last).2 last).1 := k
      rcases List.mem_cons.mp k' with e | e
      · rw [e]; exact (rc_pass_v hm0 hl5).1
      · exact q.1 m' e
end
section
/-! what came out against the word -/
theorem rc_emit_app (W : List Nat) (a b : List Nat) : ∀ (r : Nat) (w : Bool), rc_emit W r w (a ++ b) = rc_emit W (rc_emit W r w a).1 (rc_emit W r w a).2 b := by
  induction a with
  | nil => intro r w; rfl
  | cons l ls ih =>
    intro r w
    by_cases h : r < 12
    · simp only [List.cons_append, rc_emit, h, if_true]
      exact ih _ _
    · simp only [List.cons_append, rc_emit, h, if_false]
      exact ih _ _
theorem rc_emit_ff (W : List Nat) (a : List Nat) : ∀ (r : Nat), (rc_emit W r false a).2 = false := by
  induction a with
  | nil => intro r; rfl
  | cons l ls ih =>
    intro r
    by_cases h : r < 12
    · simp only [rc_emit, h, if_true, Bool.false_and]
      exact ih _
    · simp only [rc_emit, h, if_false]
      exact ih _
theorem rc_emit_r (W : List Nat) (a : List Nat) : ∀ (r : Nat) (w : Bool), r ≤ 12 → (rc_emit W r w a).1 = r + (a.take (12 - r)).length := by
  induction a with
  | nil => intro r w _; simp [rc_emit]
  | cons l ls ih =>
    intro r w hr
    by_cases h : r < 12
    · simp only [rc_emit, h, if_true]
      rw [ih _ _ (by omega), show 12 - r = (12 - (r + 1)) + 1 by omega, List.take_succ_cons, List.length_cons]
      omega
    · simp only [rc_emit, h, if_false]
      rw [ih _ _ hr, show 12 - r = 0 by omega]
      rfl
theorem rc_emit_le (W : List Nat) (a : List Nat) (r : Nat) (w : Bool) (hr : r ≤ 12) : (rc_emit W r w a).1 ≤ 12 := by
  rw [rc_emit_r W a r w hr, List.length_take]
  omega
theorem rc_emit_fin (W : List Nat) (a : List Nat) : ∀ (r : Nat), r ≤ 12 → (((rc_emit W r true a).2 = true ∧ (rc_emit W r true a).1 = W.length) ↔ (a.take (12 - r) = W.drop r ∧ r ≤ W.length)) := by
  induction a with
  | nil =>
    intro r _
    simp only [rc_emit, List.take_nil, true_and]
    constructor
    · intro h; exact ⟨by rw [h, List.drop_length], by omega⟩
    · intro h
      have := List.drop_eq_nil_iff.mp h.1.symm
      omega
  | cons l ls ih =>
    intro r hr
    by_cases h : r < 12
    · simp only [rc_emit, h, if_true, Bool.true_and]
      rw [show 12 - r = (12 - (r + 1)) + 1 by omega, List.take_succ_cons]
      by_cases e : W[r]? = some l
      · have hlt : r < W.length := by
          rcases Nat.lt_or_ge r W.length with z | z
          · exact z
          · rw [List.getElem?_eq_none z] at e; exact absurd e (by simp)
        have hl : W[r] = l := by
          rw [List.getElem?_eq_getElem hlt] at e
          exact Option.some.inj e
        simp only [e, decide_true]
        rw [ih (r + 1) (by omega), List.drop_eq_getElem_cons hlt, hl]
        constructor
        · intro z; exact ⟨by rw [z.1], by omega⟩
        · intro z; exact ⟨(List.cons.inj z.1).2, by omega⟩
      · simp only [e, decide_false]
        constructor
        · intro z; rw [rc_emit_ff] at z; exact absurd z.1 (by simp)
        · intro z
          exfalso
          apply e
          have hlt : r < W.length := by
            rcases Nat.lt_or_ge r W.length with y | y
            · exact y
            · rw [List.drop_eq_nil_iff.mpr y] at z; exact absurd z.1 (by simp)
          rw [List.drop_eq_getElem_cons hlt] at z
          rw [List.getElem?_eq_getElem hlt, (List.cons.inj z.1).1]
    · simp only [rc_emit, h, if_false]
      have h0 : 12 - r = 0 := by omega
      rw [ih r hr, h0]
      rfl
theorem rc_P_0 {rs : List rc_R} {W u : List Nat} : rc_P rs W (rc_new rs.length) 0 u = decide (rc_F rs u = W) := by
  unfold rc_P
  have h := rc_emit_fin W (rc_line rs (rc_new rs.length) u true).2 0 (by omega)
  have h' : ((rc_emit W 0 true (rc_line rs (rc_new rs.length) u true).2).2 = true ∧ (rc_emit W 0 true (rc_line rs (rc_new rs.length) u true).2).1 = W.length) ↔ rc_F rs u = W := by
    rw [h]
    show (_ ∧ _) ↔ (rc_line rs (rc_new rs.length) u true).2.take 12 = W
    rw [List.drop_zero]
    constructor
    · intro z; exact z.1
    · intro z; exact ⟨z, Nat.zero_le _⟩
  exact decide_eq_decide.mpr h'
theorem rc_P_cons {rs : List rc_R} {W : List Nat} {ms : List rc_M} {r l : Nat} (h : rs.length = ms.length) (u : List Nat) : rc_P rs W ms r (l :: u) = ((rc_emit W r true (rc_line rs ms [l] false).2).2 && rc_P rs W (rc_line rs ms [l] false).1 (rc_emit W r true (rc_line rs ms [l] false).2).1 u) := by
  unfold rc_P
  have e : l :: u = [l] ++ u := rfl
  rw [e, rc_line_app rs ms [l] u true h]
  dsimp only
  rw [rc_emit_app]
  cases c : (rc_emit W r true (rc_line rs ms [l] false).2).2 with
  | true => rw [Bool.true_and]
  | false => rw [rc_emit_ff]; simp
theorem rc_Q_cons {rs : List rc_R} {W : List Nat} {ms : List rc_M} {r l k : Nat} (h : rs.length = ms.length) : ((rc_words k).map (fun u => l :: u)).filter (rc_P rs W ms r) = if (rc_emit W r true (rc_line rs ms [l] false).2).2 = true then (rc_Q rs W k (rc_line rs ms [l] false).1 (rc_emit W r true (rc_line rs ms [l] false).2).1).map (fun u => l :: u) else [] := by
  rw [List.filter_map]
  have e : (rc_P rs W ms r ∘ fun u => l :: u) = fun u => ((rc_emit W r true (rc_line rs ms [l] false).2).2 && rc_P rs W (rc_line rs ms [l] false).1 (rc_emit W r true (rc_line rs ms [l] false).2).1 u) := funext (fun u => rc_P_cons h u)
  rw [e]
  cases c : (rc_emit W r true (rc_line rs ms [l] false).2).2 with
  | true => simp only [Bool.true_and, if_true]; rfl
  | false => simp
theorem rc_G_Q (rs : List rc_R) (W : List Nat) (k : Nat) : ∀ (ms : List rc_M) (r : Nat), rs.length = ms.length → rc_G rs W k ms r = (rc_Q rs W k ms r).length := by
  induction k with
  | zero =>
    intro ms r _
    show (if _ then 1 else 0) = ([[]].filter (rc_P rs W ms r)).length
    by_cases c : rc_P rs W ms r [] = true
    · rw [if_pos (of_decide_eq_true c), List.filter_cons_of_pos c]; rfl
    · rw [if_neg (fun z => c (decide_eq_true z)), List.filter_cons_of_neg c]; rfl
  | succ k ih =>
    intro ms r h
    have key : ∀ l, rc_w (rc_G rs W k) rs W ms r l = (((rc_words k).map (fun u => l :: u)).filter (rc_P rs W ms r)).length := by
      intro l
      rw [rc_Q_cons h]
      unfold rc_w
      by_cases c : (rc_emit W r true (rc_line rs ms [l] false).2).2 = true
      · rw [if_pos c, if_pos c, List.length_map]
        exact ih _ _ (rc_line_len rs ms [l] false h).symm
      · rw [if_neg c, if_neg c]; rfl
    show rc_w (rc_G rs W k) rs W ms r 0 + (rc_w (rc_G rs W k) rs W ms r 1 + (rc_w (rc_G rs W k) rs W ms r 2 + rc_w (rc_G rs W k) rs W ms r 3)) = (List.filter (rc_P rs W ms r) ((rc_words k).map (fun u => 0 :: u) ++ ((rc_words k).map (fun u => 1 :: u) ++ ((rc_words k).map (fun u => 2 :: u) ++ (rc_words k).map (fun u => 3 :: u))))).length
    rw [List.filter_append, List.filter_append, List.filter_append, List.length_append, List.length_append, List.length_append, key, key, key, key]
/-- the sum of the ways of the letters ahead of l -/
def rc_pre (f : Nat → Nat) : Nat → Nat
  | 0 => 0
  | l + 1 => rc_pre f l + f l
theorem rc_Q_pick {rs : List rc_R} {W : List Nat} {k : Nat} {ms : List rc_M} {r left : Nat} {u : List Nat} (h : rs.length = ms.length) (hu : (rc_Q rs W (k + 1) ms r)[left]? = some u) :
    ∃ l v, l < 4 ∧ u = l :: v ∧ rc_pre (rc_w (rc_G rs W k) rs W ms r) l ≤ left ∧ (rc_emit W r true (rc_line rs ms [l] false).2).2 = true ∧ (rc_Q rs W k (rc_line rs ms [l] false).1 (rc_emit W r true (rc_line rs ms [l] false).2).1)[left - rc_pre (rc_w (rc_G rs W k) rs W ms r) l]? = some v := by
  have key : ∀ l, rc_w (rc_G rs W k) rs W ms r l = (((rc_words k).map (fun u => l :: u)).filter (rc_P rs W ms r)).length := by
    intro l
    rw [rc_Q_cons h]
    unfold rc_w
    by_cases c : (rc_emit W r true (rc_line rs ms [l] false).2).2 = true
    · rw [if_pos c, if_pos c, List.length_map]
      exact rc_G_Q rs W k _ _ (rc_line_len rs ms [l] false h).symm
    · rw [if_neg c, if_neg c]; rfl
  have take : ∀ (l i : Nat), (((rc_words k).map (fun u => l :: u)).filter (rc_P rs W ms r))[i]? = some u → ∃ v, u = l :: v ∧ (rc_emit W r true (rc_line rs ms [l] false).2).2 = true ∧ (rc_Q rs W k (rc_line rs ms [l] false).1 (rc_emit W r true (rc_line rs ms [l] false).2).1)[i]? = some v := by
    intro l i hi
    rw [rc_Q_cons h] at hi
    by_cases c : (rc_emit W r true (rc_line rs ms [l] false).2).2 = true
    · rw [if_pos c, List.getElem?_map] at hi
      cases e : (rc_Q rs W k (rc_line rs ms [l] false).1 (rc_emit W r true (rc_line rs ms [l] false).2).1)[i]? with
      | none => rw [e] at hi; exact absurd hi (by simp)
      | some v =>
        rw [e] at hi
        exact ⟨v, (Option.some.inj hi).symm, c, rfl⟩
    · rw [if_neg c] at hi; exact absurd hi (by simp)
  have hu' : ((((rc_words k).map (fun u => 0 :: u)).filter (rc_P rs W ms r)) ++ ((((rc_words k).map (fun u => 1 :: u)).filter (rc_P rs W ms r)) ++ ((((rc_words k).map (fun u => 2 :: u)).filter (rc_P rs W ms r)) ++ (((rc_words k).map (fun u => 3 :: u)).filter (rc_P rs W ms r)))))[left]? = some u := by
    rw [← List.filter_append, ← List.filter_append, ← List.filter_append]
    exact hu
  have k0 := key 0
  have k1 := key 1
  have k2 := key 2
  generalize hw : rc_w (rc_G rs W k) rs W ms r = f at k0 k1 k2 ⊢
  have p0 : rc_pre f 0 = 0 := rfl
  have p1 : rc_pre f 1 = f 0 := by show 0 + f 0 = f 0; omega
  have p2 : rc_pre f 2 = f 0 + f 1 := by show rc_pre f 1 + f 1 = _; rw [p1]
  have p3 : rc_pre f 3 = f 0 + f 1 + f 2 := by show rc_pre f 2 + f 2 = _; rw [p2]
  rw [List.getElem?_append] at hu'
  split at hu'
  · obtain ⟨v, e1, e2, e3⟩ := take 0 _ hu'
    exact ⟨0, v, by omega, e1, by omega, e2, by rw [p0]; exact e3⟩
  · next n0 =>
    rw [List.getElem?_append] at hu'
    split at hu'
    · obtain ⟨v, e1, e2, e3⟩ := take 1 _ hu'
      exact ⟨1, v, by omega, e1, by omega, e2, by rw [p1, k0]; exact e3⟩
    · next n1 =>
      rw [List.getElem?_append] at hu'
      split at hu'
      · obtain ⟨v, e1, e2, e3⟩ := take 2 _ hu'
        refine ⟨2, v, by omega, e1, by omega, e2, ?_⟩
        rw [p2, k0, k1, show ∀ a b c : Nat, a - (b + c) = a - b - c by omega]
        exact e3
      · next n2 =>
        obtain ⟨v, e1, e2, e3⟩ := take 3 _ hu'
        refine ⟨3, v, by omega, e1, by omega, e2, ?_⟩
        rw [p3, k0, k1, k2, show ∀ a b c d : Nat, a - (b + c + d) = a - b - c - d by omega]
        exact e3
/-! words -/
theorem rc_mem_words {n : Nat} : ∀ {u : List Nat}, u ∈ rc_words n ↔ u.length = n ∧ ∀ y, y ∈ u → y < 4 := by
  induction n with
  | zero =>
    intro u
    show u ∈ [[]] ↔ _
    rw [List.mem_singleton]
    constructor
    · intro h; rw [h]; exact ⟨rfl, fun y hy => absurd hy (by simp)⟩
    · intro h; exact List.length_eq_zero_iff.mp h.1
  | succ n ih =>
    intro u
    show u ∈ _ ++ (_ ++ (_ ++ _)) ↔ _
    have key : ∀ l, u ∈ (rc_words n).map (fun v => l :: v) ↔ ∃ v, u = l :: v ∧ v.length = n ∧ ∀ y, y ∈ v → y < 4 := by
      intro l
      rw [List.mem_map]
      constructor
      · intro ⟨v, h1, h2⟩; exact ⟨v, h2.symm, ih.mp h1⟩
      · intro ⟨v, h1, h2⟩; exact ⟨v, ih.mpr h2, h1.symm⟩
    rw [List.mem_append, List.mem_append, List.mem_append, key, key, key, key]
    constructor
    · intro h
      have g : ∃ l v, l < 4 ∧ u = l :: v ∧ v.length = n ∧ ∀ y, y ∈ v → y < 4 := by
        rcases h with ⟨v, h⟩ | ⟨v, h⟩ | ⟨v, h⟩ | ⟨v, h⟩
        · exact ⟨0, v, by omega, h⟩
        · exact ⟨1, v, by omega, h⟩
        · exact ⟨2, v, by omega, h⟩
        · exact ⟨3, v, by omega, h⟩
      obtain ⟨l, v, hl, e, h1, h2⟩ := g
      rw [e]
      refine ⟨by rw [List.length_cons, h1], fun y hy => ?_⟩
      rcases List.mem_cons.mp hy with z | z
      · omega
      · exact h2 y z
    · intro ⟨h1, h2⟩
      cases u with
      | nil => exact absurd h1 (by simp)
      | cons l v =>
        have hl : l < 4 := h2 l (by simp)
        have hv : v.length = n ∧ ∀ y, y ∈ v → y < 4 := ⟨by simpa using h1, fun y hy => h2 y (by simp [hy])⟩
        have c : l = 0 ∨ l = 1 ∨ l = 2 ∨ l = 3 := by omega
        rcases c with c | c | c | c
        · left; exact ⟨v, by rw [c], hv⟩
        · right; left; exact ⟨v, by rw [c], hv⟩
        · right; right; left; exact ⟨v, by rw [c], hv⟩
        · right; right; right; exact ⟨v, by rw [c], hv⟩
/-- the digits of a word's number, the highest first -/
def rc_dig : Nat → Nat → List Nat
  | 0, _ => []
  | n + 1, w => (w / 4 ^ n % 4) :: rc_dig n w
theorem rc_dig_mod (n : Nat) : ∀ w, rc_dig n (w % 4 ^ n) = rc_dig n w := by
  induction n with
  | zero => intro w; rfl
  | succ n ih =>
    intro w
    show (w % 4 ^ (n + 1) / 4 ^ n % 4) :: rc_dig n (w % 4 ^ (n + 1)) = (w / 4 ^ n % 4) :: rc_dig n w
    have e1 : w % 4 ^ (n + 1) / 4 ^ n % 4 = w / 4 ^ n % 4 := by
      rw [Nat.pow_succ, Nat.mod_mul_right_div_self, Nat.mod_mod]
    have e2 : rc_dig n (w % 4 ^ (n + 1)) = rc_dig n w := by
      rw [← ih (w % 4 ^ (n + 1)), ← ih w, Nat.mod_mod_of_dvd w (by rw [Nat.pow_succ]; exact Nat.dvd_mul_right _ _)]
    rw [e1, e2]
theorem rc_dig_add (n l w : Nat) (hl : l < 4) (hw : w < 4 ^ n) : rc_dig (n + 1) (4 ^ n * l + w) = l :: rc_dig n w := by
  have hp : 0 < 4 ^ n := Nat.pow_pos (by omega)
  show ((4 ^ n * l + w) / 4 ^ n % 4) :: rc_dig n (4 ^ n * l + w) = l :: rc_dig n w
  have e1 : (4 ^ n * l + w) / 4 ^ n % 4 = l := by
    rw [Nat.mul_add_div hp, Nat.div_eq_of_lt hw, Nat.add_zero, Nat.mod_eq_of_lt hl]
  have e2 : rc_dig n (4 ^ n * l + w) = rc_dig n w := by
    rw [← rc_dig_mod n (4 ^ n * l + w), Nat.mul_add_mod, rc_dig_mod]
  rw [e1, e2]
theorem rc_words_dig (n : Nat) : rc_words n = (List.range (4 ^ n)).map (rc_dig n) := by
  induction n with
  | zero => rfl
  | succ n ih =>
    have e : 4 ^ (n + 1) = 4 ^ n + (4 ^ n + (4 ^ n + 4 ^ n)) := by rw [Nat.pow_succ]; omega
    have key : ∀ l, l < 4 → (List.range (4 ^ n)).map (fun w => rc_dig (n + 1) (4 ^ n * l + w)) = (rc_words n).map (fun u => l :: u) := by
      intro l hl
      rw [ih, List.map_map]
      apply List.map_congr_left
      intro w hw
      exact rc_dig_add n l w hl (List.mem_range.mp hw)
    rw [e, List.range_add, List.range_add, List.range_add]
    simp only [List.map_append, List.map_map]
    show (rc_words n).map (fun u => 0 :: u) ++ ((rc_words n).map (fun u => 1 :: u) ++ ((rc_words n).map (fun u => 2 :: u) ++ (rc_words n).map (fun u => 3 :: u))) = _
    rw [← key 0 (by omega), ← key 1 (by omega), ← key 2 (by omega), ← key 3 (by omega)]
    have f0 : ∀ w, 4 ^ n * 0 + w = w := by intro w; omega
    have f1 : ∀ w, 4 ^ n * 1 + w = 4 ^ n + w := by intro w; omega
    have f2 : ∀ w, 4 ^ n * 2 + w = 4 ^ n + (4 ^ n + w) := by intro w; omega
    have f3 : ∀ w, 4 ^ n * 3 + w = 4 ^ n + (4 ^ n + (4 ^ n + w)) := by intro w; omega
    simp only [f0, f1, f2, f3]
    rfl
theorem rc_foldl_dig (n : Nat) : ∀ c w, w < 4 ^ n → (rc_dig n w).foldl (fun c d => 4 * c + d) c = c * 4 ^ n + w := by
  induction n with
  | zero =>
    intro c w h
    have h0 : w = 0 := by simpa using h
    subst h0
    simp [rc_dig]
  | succ n ih =>
    intro c w h
    have hp : 0 < 4 ^ n := Nat.pow_pos (by omega)
    have hl : w / 4 ^ n < 4 := by
      rw [Nat.div_lt_iff_lt_mul hp, Nat.mul_comm, ← Nat.pow_succ]; exact h
    have hm : w % 4 ^ n < 4 ^ n := Nat.mod_lt _ hp
    have e : 4 ^ n * (w / 4 ^ n) + w % 4 ^ n = w := Nat.div_add_mod w (4 ^ n)
    have d := rc_dig_add n (w / 4 ^ n) (w % 4 ^ n) hl hm
    rw [e] at d
    rw [d, List.foldl_cons, ih _ _ hm, Nat.pow_succ]
    have e' : w = 4 ^ n * (w / 4 ^ n) + w % 4 ^ n := e.symm
    generalize w / 4 ^ n = q at *
    generalize w % 4 ^ n = t at *
    generalize 4 ^ n = p at *
    subst e'
    rw [Nat.add_mul, Nat.mul_comm p q, Nat.mul_comm 4 c, Nat.mul_assoc c 4 p, Nat.mul_comm 4 p, Nat.add_assoc]
theorem rc_code_dig (n w : Nat) (h : w < 4 ^ n) : rc_code (rc_dig n w) = 4 ^ n + w := by
  unfold rc_code
  rw [rc_foldl_dig n 1 w h, Nat.one_mul]
theorem rc_code_app (l : List Nat) (d : Nat) : rc_code (l ++ [d]) = 4 * rc_code l + d := by
  unfold rc_code
  rw [List.foldl_append]
  rfl
theorem rc_code_pos (l : List Nat) : 0 < rc_code l := by
  have h : ∀ (l : List Nat) (c : Nat), 0 < c → 0 < l.foldl (fun c d => 4 * c + d) c := by
    intro l
    induction l with
    | nil => intro c h; exact h
    | cons d ds ih => intro c h; exact ih (4 * c + d) (by omega)
  exact h l 1 (by omega)
theorem rc_snoc (l : List Nat) : l = [] ∨ ∃ a d, l = a ++ [d] := by
  induction l with
  | nil => left; rfl
  | cons x xs ih =>
    right
    rcases ih with h | ⟨a, d, h⟩
    · exact ⟨[], x, by rw [h]; rfl⟩
    · exact ⟨x :: a, d, by rw [h]; rfl⟩
theorem rc_code_inj : ∀ (n : Nat) (a b : List Nat), a.length ≤ n → (∀ y, y ∈ a → y < 4) → (∀ y, y ∈ b → y < 4) → rc_code a = rc_code b → a = b := by
  intro n
  induction n with
  | zero =>
    intro a b ha _ hb e
    have ha' : a = [] := List.length_eq_zero_iff.mp (by omega)
    rw [ha'] at e ⊢
    rcases rc_snoc b with h | ⟨b', d, h⟩
    · exact h.symm
    · rw [h, rc_code_app] at e
      have := rc_code_pos b'
      have e' : 1 = 4 * rc_code b' + d := e
      omega
  | succ n ih =>
    intro a b ha h1 h2 e
    rcases rc_snoc a with h | ⟨a', c, h⟩
    · rcases rc_snoc b with h' | ⟨b', d, h'⟩
      · rw [h, h']
      · rw [h, h', rc_code_app] at e
        have := rc_code_pos b'
        have e' : 1 = 4 * rc_code b' + d := e
        omega
    · rcases rc_snoc b with h' | ⟨b', d, h'⟩
      · rw [h, h', rc_code_app] at e
        have := rc_code_pos a'
        have e' : 4 * rc_code a' + c = 1 := e
        omega
      · rw [h] at h1 ha
        rw [h'] at h2
        rw [h, h', rc_code_app, rc_code_app] at e
        have hc : c < 4 := h1 c (by simp)
        have hd : d < 4 := h2 d (by simp)
        have g : a' = b' := ih a' b' (by simp at ha; omega) (fun y hy => h1 y (by simp [hy])) (fun y hy => h2 y (by simp [hy])) (by omega)
        rw [h, h', g, show c = d by omega]
theorem rc_code_lt (l : List Nat) (h : ∀ y, y ∈ l → y < 4) : rc_code l < 2 * 4 ^ l.length := by
  have g : ∀ (l : List Nat) (c : Nat), (∀ y, y ∈ l → y < 4) → l.foldl (fun c d => 4 * c + d) c < (c + 1) * 4 ^ l.length := by
    intro l
    induction l with
    | nil => intro c _; simp
    | cons d ds ih =>
      intro c h
      have hd : d < 4 := h d (by simp)
      have k := ih (4 * c + d) (fun y hy => h y (by simp [hy]))
      rw [List.foldl_cons, List.length_cons, Nat.pow_succ]
      refine Nat.lt_of_lt_of_le k ?_
      rw [Nat.mul_comm (4 ^ ds.length) 4, ← Nat.mul_assoc]
      exact Nat.mul_le_mul_right _ (by omega)
  exact g l 1 h
end
section
/-! arrays against lists of letters -/
def rc_A (a : Nat → Int32) (l : List Nat) : Prop := ∀ j v, l[j]? = some v → v < 4 ∧ a j = nI v
/-- the same but at s -/
def rc_fr (s : Nat) (a b : Nat → Int32) : Prop := ∀ j, j ≠ s → b j = a j
def rc_L (a1 a2 a3 a4 a5 a7 : Nat → Int32) (s : Nat) (r : rc_R) : Prop := ∃ t, t < 5 ∧ a7 s = nI t ∧ a1 t = nI r.1 ∧ a2 t = nI r.2.1 ∧ a3 t = nI r.2.2.1 ∧ a4 t = nI r.2.2.2.1 ∧ a5 t = nI r.2.2.2.2
def rc_Mm (a8 a9 a10 : Nat → Int32) (s : Nat) (m : rc_M) : Prop := a8 s = nI m.1 ∧ a9 s = nI m.2.1 ∧ a10 s = nI m.2.2
def rc_b (w : Bool) : Int32 := if w = true then 1 else 0
theorem rc_b8 : ∀ v, v < 128 → (nI v).toInt8.toInt32 = nI v := by decide +kernel
theorem rc_n8 {v : Nat} (h : v < 128) : vp_nar .byte (nI v) = nI v := by rw [vp_nar_byte, rc_b8 v h]
theorem rc_bit : ∀ s, s < 32 → ∀ y, y < 8 → ((((nI s >>> (nI y &&& 31)) &&& 1) = 1) ↔ s.testBit y = true) := by decide +kernel
theorem rc_frU (s : Nat) (a : Nat → Int32) (x : Int32) : rc_fr s a (upd a s x) := fun _ hj => pk_un hj
theorem rc_frT {s : Nat} {a b c : Nat → Int32} (h : rc_fr s a b) (h' : rc_fr s b c) : rc_fr s a c := fun j hj => (h' j hj).trans (h j hj)
theorem rc_fr0 (s : Nat) (a : Nat → Int32) : rc_fr s a a := fun _ _ => rfl
theorem rc_A_nil (a : Nat → Int32) : rc_A a [] := fun j v h => absurd h (by simp)
theorem rc_A_snoc {a : Nat → Int32} {l : List Nat} {v : Nat} (h : rc_A a l) (hv : v < 4) : rc_A (upd a l.length (nI v)) (l ++ [v]) := by
  intro j u hu
  by_cases e : j = l.length
  · rw [e] at hu ⊢
    rw [List.getElem?_append_right (Nat.le_refl _), Nat.sub_self] at hu
    have : v = u := Option.some.inj hu
    rw [← this]
    exact ⟨hv, pk_us⟩
  · have hj : j < l.length := by
      rcases Nat.lt_or_ge j l.length with z | z
      · exact z
      · rw [List.getElem?_eq_none (by simp; omega)] at hu; exact absurd hu (by simp)
    rw [List.getElem?_append_left hj] at hu
    rw [pk_un e]
    exact h j u hu
theorem rc_A_fr {a b : Nat → Int32} {l : List Nat} (h : rc_A a l) (hb : ∀ j, j < l.length → b j = a j) : rc_A b l := by
  intro j v hv
  have hj : j < l.length := by
    rcases Nat.lt_or_ge j l.length with z | z
    · exact z
    · rw [List.getElem?_eq_none z] at hv; exact absurd hv (by simp)
  rw [hb j hj]
  exact h j v hv
theorem rc_A_at {a : Nat → Int32} {l : List Nat} {i : Nat} (h : rc_A a l) (hi : i < l.length) : ∃ v, l[i]? = some v ∧ v < 4 ∧ a i = nI v :=
  ⟨l[i], List.getElem?_eq_getElem hi, h i _ (List.getElem?_eq_getElem hi)⟩
/-! handOn, allows, meet -/
theorem rc_handOn {post : St2 → Prop} {ru sz li co go re wa fo la : Int32} {a1 a2 a3 a4 a5 a6 a7 a8 a9 a10 a11 a12 a13 : Nat → Int32} {a14 : Nat → Int64} {a15 : Nat → Int32} {a16 : Nat → Int64} {a17 a18 : Nat → Int32} {s l d : Nat} {o : List Nat} (hs : s < 5) (hl : l < 4) (hd : a10 s = nI d) (hd12 : d ≤ 12) (ho : o.length ≤ d) (hg : go = nI o.length) (hA : rc_A a12 o)
    (H : ∀ b10 b12, b10 s = nI (rc_ho l (d, o)).1 → rc_fr s a10 b10 → rc_A b12 (rc_ho l (d, o)).2 → post (ru, sz, li, co, (nI (rc_ho l (d, o)).2.length), re, wa, fo, la, a1, a2, a3, a4, a5, a6, a7, a8, a9, b10, a11, b12, a13, a14, a15, a16, a17, a18)) : wpX_handOn post (ru, sz, li, co, go, re, wa, fo, la, a1, a2, a3, a4, a5, a6, a7, a8, a9, a10, a11, a12, a13, a14, a15, a16, a17, a18) (nI s) (nI l) := by
  have cs : (nI s).toNatClampNeg = s := nI_clamp (by omega)
  subst hg
  have cg : (nI o.length).toNatClampNeg = o.length := nI_clamp (by omega)
  unfold wpX_handOn
  dsimp only
  rw [cs, cg, hd]
  refine ⟨pk_in s 5 hs, pk_le 12 d (fun z => ?_) (fun z => ⟨pk_in o.length 80 (by omega), ?_⟩)⟩
  · have e : rc_ho l (d, o) = (d, o) := if_neg (by show ¬ d < 12; omega)
    rw [e] at H
    exact H a10 a12 hd (rc_fr0 _ _) hA
  · have e : rc_ho l (d, o) = (d + 1, o ++ [l]) := if_pos (by show d < 12; omega)
    rw [e] at H
    intro b12 e12 f ef
    refine ⟨pk_in s 5 hs, pk_in s 5 hs, fun b10 e10 => ?_⟩
    have ef' : f = nI (o ++ [l]).length := by rw [ef, nI_1, List.length_append]; rfl
    rw [ef']
    refine H b10 b12 ?_ ?_ ?_
    · rw [e10, pk_us, nI_1]
      exact rc_b8 _ (by omega)
    · rw [e10]; exact rc_frU _ _ _
    · rw [e12, rc_b8 l (by omega)]
      exact rc_A_snoc hA hl
theorem rc_allows {post : Int32 → Prop} {ru sz li co go re wa fo la : Int32} {a1 a2 a3 a4 a5 a6 a7 a8 a9 a10 a11 a12 a13 : Nat → Int32} {a14 : Nat → Int64} {a15 : Nat → Int32} {a16 : Nat → Int64} {a17 a18 : Nat → Int32} {s y : Nat} (hs : s < 32) (hy : y < 8) (H1 : s.testBit y = true → post 1) (H0 : s.testBit y = false → post 0) : wpX_allows post (ru, sz, li, co, go, re, wa, fo, la, a1, a2, a3, a4, a5, a6, a7, a8, a9, a10, a11, a12, a13, a14, a15, a16, a17, a18) (nI s) (nI y) := by
  unfold wpX_allows
  refine br_c (fun h => H1 ((rc_bit s hs y hy).mp h)) (fun h => H0 ?_)
  cases e : s.testBit y with
  | false => rfl
  | true => exact absurd ((rc_bit s hs y hy).mpr e) h
theorem rc_m190 {post : St2 → Prop} {ru sz li co go re wa fo la : Int32} {a1 a2 a3 a4 a5 a6 a7 a8 a9 a10 a11 a12 a13 : Nat → Int32} {a14 : Nat → Int64} {a15 : Nat → Int32} {a16 : Nat → Int64} {a17 a18 : Nat → Int32} {s y : Nat} (hs : s < 5) (hy : y < 5) (H : ∀ b9, b9 s = nI (if y = 4 then 5 else y) → rc_fr s a9 b9 → post (ru, sz, li, co, go, re, wa, fo, la, a1, a2, a3, a4, a5, a6, a7, a8, b9, a10, a11, a12, a13, a14, a15, a16, a17, a18)) : wX_meet_190 post (nI s) (nI y) ru sz li co go re wa fo la a1 a2 a3 a4 a5 a6 a7 a8 a9 a10 a11 a12 a13 a14 a15 a16 a17 a18 := by
  have cs : (nI s).toNatClampNeg = s := nI_clamp (by omega)
  unfold wX_meet_190
  rw [cs]
  refine pk_eq y 4 (fun e => ⟨pk_in s 5 hs, fun b9 e9 => ?_⟩) (fun e => ⟨pk_in s 5 hs, fun b9 e9 => ?_⟩)
  · rw [if_pos e] at H
    refine H b9 ?_ (by rw [e9]; exact rc_frU _ _ _)
    rw [e9, pk_us]
    rfl
  · rw [if_neg e] at H
    refine H b9 ?_ (by rw [e9]; exact rc_frU _ _ _)
    rw [e9, pk_us]
    exact rc_b8 y (by omega)
theorem rc_m181 {post : St2 → Prop} {ru sz li co go re wa fo la : Int32} {a1 a2 a3 a4 a5 a6 a7 a8 a9 a10 a11 a12 a13 : Nat → Int32} {a14 : Nat → Int64} {a15 : Nat → Int32} {a16 : Nat → Int64} {a17 a18 : Nat → Int32} {s y h : Nat} (hs : s < 5) (hy : y < 5) (hh : h < 128) (H : ∀ b8 b9, b8 s = nI h → rc_fr s a8 b8 → b9 s = nI (if y = 4 then 5 else y) → rc_fr s a9 b9 → post (ru, sz, li, co, go, re, wa, fo, la, a1, a2, a3, a4, a5, a6, a7, b8, b9, a10, a11, a12, a13, a14, a15, a16, a17, a18)) : wX_meet_181 post (nI s) (nI y) (nI h) ru sz li co go re wa fo la a1 a2 a3 a4 a5 a6 a7 a8 a9 a10 a11 a12 a13 a14 a15 a16 a17 a18 := by
  have cs : (nI s).toNatClampNeg = s := nI_clamp (by omega)
  unfold wX_meet_181
  rw [cs]
  exact ⟨pk_in s 5 hs, fun b8 e8 => rc_m190 hs hy (fun b9 h1 h2 => H b8 b9 (by rw [e8, pk_us]; exact rc_b8 h hh) (by rw [e8]; exact rc_frU _ _ _) h1 h2)⟩
theorem rc_m144_0 {post : St2 → Prop} {ru sz li co go re wa fo la : Int32} {a1 a2 a3 a4 a5 a6 a7 a8 a9 a10 a11 a12 a13 : Nat → Int32} {a14 : Nat → Int64} {a15 : Nat → Int32} {a16 : Nat → Int64} {a17 a18 : Nat → Int32} {s y h d : Nat} {o : List Nat} {x3 : Int32} (hs : s < 5) (hy : y < 5) (hh : h < 4) (hd : a10 s = nI d) (hd12 : d ≤ 12) (ho : o.length ≤ d) (hg : go = nI o.length) (hA : rc_A a12 o)
    (H : ∀ b8 b9 b10 b12, b8 s = nI h → rc_fr s a8 b8 → b9 s = nI (if y = 4 then 5 else y) → rc_fr s a9 b9 → b10 s = nI (rc_ho h (d, o)).1 → rc_fr s a10 b10 → rc_A b12 (rc_ho h (d, o)).2 → post (ru, sz, li, co, (nI (rc_ho h (d, o)).2.length), re, wa, fo, la, a1, a2, a3, a4, a5, a6, a7, b8, b9, b10, a11, b12, a13, a14, a15, a16, a17, a18)) : wX_meet_144 post (nI s) (nI y) x3 (nI h) 0 ru sz li co go re wa fo la a1 a2 a3 a4 a5 a6 a7 a8 a9 a10 a11 a12 a13 a14 a15 a16 a17 a18 := by
  unfold wX_meet_144
  refine br_t rfl (rc_handOn hs hh hd hd12 ho hg hA (fun b10 b12 g1 g2 g3 => ?_))
  exact rc_m181 hs hy (by omega) (fun b8 b9 k1 k2 k3 k4 => H b8 b9 b10 b12 k1 k2 k3 k4 g1 g2 g3)
theorem rc_m144_1 {post : St2 → Prop} {ru sz li co go re wa fo la : Int32} {a1 a2 a3 a4 a5 a6 a7 a8 a9 a10 a11 a12 a13 : Nat → Int32} {a14 : Nat → Int64} {a15 : Nat → Int32} {a16 : Nat → Int64} {a17 a18 : Nat → Int32} {s y h d t k q : Nat} {o : List Nat} (hs : s < 5) (hy : y < 5) (hh : h < 4) (hd : a10 s = nI d) (hd12 : d ≤ 12) (ho : o.length ≤ d) (hg : go = nI o.length) (hA : rc_A a12 o)
    (ht : t < 5) (hk : a1 t = nI k) (hk2 : k < 3) (hq : a3 t = nI q) (hq4 : q < 4)
    (H : ∀ b8 b9 b10 b12, b8 s = nI h → rc_fr s a8 b8 → b9 s = nI (if y = 4 then 5 else y) → rc_fr s a9 b9 → b10 s = nI (if k = 0 then rc_ho q (d, o) else (d, o)).1 → rc_fr s a10 b10 → rc_A b12 (if k = 0 then rc_ho q (d, o) else (d, o)).2 → post (ru, sz, li, co, (nI (if k = 0 then rc_ho q (d, o) else (d, o)).2.length), re, wa, fo, la, a1, a2, a3, a4, a5, a6, a7, b8, b9, b10, a11, b12, a13, a14, a15, a16, a17, a18)) : wX_meet_144 post (nI s) (nI y) (nI t) (nI h) 1 ru sz li co go re wa fo la a1 a2 a3 a4 a5 a6 a7 a8 a9 a10 a11 a12 a13 a14 a15 a16 a17 a18 := by
  have ct : (nI t).toNatClampNeg = t := nI_clamp (by omega)
  unfold wX_meet_144
  rw [ct, hk, hq]
  refine br_f (by decide) ⟨pk_in t 5 ht, pk_eq k 0 (fun e => ⟨pk_in t 5 ht, ?_⟩) (fun e => ?_)⟩
  · rw [if_pos e] at H
    refine rc_handOn hs hq4 hd hd12 ho hg hA (fun b10 b12 g1 g2 g3 => ?_)
    exact rc_m181 hs hy (by omega) (fun b8 b9 k1 k2 k3 k4 => H b8 b9 b10 b12 k1 k2 k3 k4 g1 g2 g3)
  · rw [if_neg e] at H
    subst hg
    exact rc_m181 hs hy (by omega) (fun b8 b9 k1 k2 k3 k4 => H b8 b9 a10 a12 k1 k2 k3 k4 hd (rc_fr0 _ _) hA)
theorem rc_m61 {post : St2 → Prop} {ru sz li co go re wa fo la : Int32} {a1 a2 a3 a4 a5 a6 a7 a8 a9 a10 a11 a12 a13 : Nat → Int32} {a14 : Nat → Int64} {a15 : Nat → Int32} {a16 : Nat → Int64} {a17 a18 : Nat → Int32} {s y d : Nat} {o : List Nat} (hs : s < 5) (hy : y < 5) (hd : a10 s = nI d) (hd12 : d ≤ 12) (ho : o.length ≤ d) (hg : go = nI o.length) (hA : rc_A a12 o)
    (H : ∀ b8 b10 b12, b8 s = nI y → rc_fr s a8 b8 → b10 s = nI (if y = 4 then (d, o) else rc_ho y (d, o)).1 → rc_fr s a10 b10 → rc_A b12 (if y = 4 then (d, o) else rc_ho y (d, o)).2 → post (ru, sz, li, co, (nI (if y = 4 then (d, o) else rc_ho y (d, o)).2.length), re, wa, fo, la, a1, a2, a3, a4, a5, a6, a7, b8, a9, b10, a11, b12, a13, a14, a15, a16, a17, a18)) : wX_meet_61 post (nI s) (nI y) ru sz li co go re wa fo la a1 a2 a3 a4 a5 a6 a7 a8 a9 a10 a11 a12 a13 a14 a15 a16 a17 a18 := by
  have cs : (nI s).toNatClampNeg = s := nI_clamp (by omega)
  unfold wX_meet_61
  rw [cs]
  refine pk_eq y 4 (fun e => ⟨pk_in s 5 hs, fun b8 e8 => ?_⟩) (fun e => ?_)
  · rw [if_pos e] at H
    subst hg
    exact H b8 a10 a12 (by rw [e8, pk_us]; exact rc_b8 y (by omega)) (by rw [e8]; exact rc_frU _ _ _) hd (rc_fr0 _ _) hA
  · rw [if_neg e] at H
    refine rc_handOn hs (by omega) hd hd12 ho hg hA (fun b10 b12 g1 g2 g3 => ⟨pk_in s 5 hs, fun b8 e8 => ?_⟩)
    exact H b8 b10 b12 (by rw [e8, pk_us]; exact rc_b8 y (by omega)) (by rw [e8]; exact rc_frU _ _ _) g1 g2 g3
theorem rc_meetW {post : St2 → Prop} {ru sz li co go re wa fo la : Int32} {a1 a2 a3 a4 a5 a6 a7 a8 a9 a10 a11 a12 a13 : Nat → Int32} {a14 : Nat → Int64} {a15 : Nat → Int32} {a16 : Nat → Int64} {a17 a18 : Nat → Int32} {s y : Nat} {r : rc_R} {m : rc_M} {o : List Nat} (hs : s < 5) (hy : y < 5) (hr : rc_Rv r) (hm : rc_Mv m) (hL : rc_L a1 a2 a3 a4 a5 a7 s r) (hM : rc_Mm a8 a9 a10 s m) (ho : o.length ≤ m.2.2) (hg : go = nI o.length) (hA : rc_A a12 o)
    (H : ∀ b8 b9 b10 b12, rc_Mm b8 b9 b10 s (rc_meet r m y o).1 → rc_fr s a8 b8 → rc_fr s a9 b9 → rc_fr s a10 b10 → rc_A b12 (rc_meet r m y o).2 → post (ru, sz, li, co, (nI (rc_meet r m y o).2.length), re, wa, fo, la, a1, a2, a3, a4, a5, a6, a7, b8, b9, b10, a11, b12, a13, a14, a15, a16, a17, a18)) : wpX_meet post (ru, sz, li, co, go, re, wa, fo, la, a1, a2, a3, a4, a5, a6, a7, a8, a9, a10, a11, a12, a13, a14, a15, a16, a17, a18) (nI s) (nI y) := by
  obtain ⟨t, ht, h7, h1, h2, h3, h4, h5⟩ := hL
  obtain ⟨hb, hh, hd⟩ := hM
  obtain ⟨v1, v2, v3, v4, v5⟩ := hr
  obtain ⟨w1, w2, w3⟩ := hm
  have cs : (nI s).toNatClampNeg = s := nI_clamp (by omega)
  have ct : (nI t).toNatClampNeg = t := nI_clamp (by omega)
  unfold wpX_meet
  dsimp only
  rw [cs, h7]
  refine ⟨pk_in s 5 hs, fun x3 e3 => ?_⟩
  subst e3
  rw [ct, h1, h2, h3, h4, h5, hb, hh]
  refine ⟨pk_in t 5 ht, pk_eq r.1 2 (fun k2 => ?_) (fun k2 => ?_)⟩
  · have e0 : rc_hit r m.1 y = false → rc_meet r m y o = ((y, m.2.1, (if y = 4 then (m.2.2, o) else rc_ho y (m.2.2, o)).1), (if y = 4 then (m.2.2, o) else rc_ho y (m.2.2, o)).2) := by
      intro z
      simp only [rc_meet, rc_mo, rc_mb, rc_mh, k2, if_true, z, Bool.false_eq_true, if_false]
    have e1 : rc_hit r m.1 y = true → rc_meet r m y o = ((y, m.2.1, (if y = 4 then rc_ho r.2.2.1 (m.2.2, o) else rc_ho y (rc_ho r.2.2.1 (m.2.2, o))).1), (if y = 4 then rc_ho r.2.2.1 (m.2.2, o) else rc_ho y (rc_ho r.2.2.1 (m.2.2, o))).2) := by
      intro z
      simp only [rc_meet, rc_mo, rc_mb, rc_mh, k2, if_true, z]
    have no : rc_hit r m.1 y = false → wX_meet_61 post (nI s) (nI y) ru sz li co go re wa fo la a1 a2 a3 a4 a5 a6 a7 a8 a9 a10 a11 a12 a13 a14 a15 a16 a17 a18 := by
      intro z
      rw [e0 z] at H
      exact rc_m61 hs hy hd w3 ho hg hA (fun b8 b10 b12 g1 g2 g3 g4 g5 => H b8 a9 b10 b12 ⟨g1, hh, g3⟩ g2 (rc_fr0 _ _) g4 g5)
    refine ⟨pk_in t 5 ht, pk_in s 5 hs, rc_allows v4 (by omega) (fun t1 => ?_) (fun t0 => ?_)⟩
    · refine br_f (by decide) ⟨pk_in t 5 ht, rc_allows v5 (by omega) (fun t2 => ?_) (fun t0 => ?_)⟩
      · refine br_f (by decide) ⟨pk_in t 5 ht, ?_⟩
        have z : rc_hit r m.1 y = true := by show (_ && _) = true; rw [t1, t2]; rfl
        rw [e1 z] at H
        have k := rc_ho_v (l := r.2.2.1) (p := (m.2.2, o)) w3 ho
        refine rc_handOn hs v3 hd w3 ho hg hA (fun b10 b12 g1 g2 g3 => ?_)
        exact rc_m61 hs hy g1 k.1 k.2 rfl g3 (fun c8 c10 c12 q1 q2 q3 q4 q5 => H c8 a9 c10 c12 ⟨q1, hh, q3⟩ q2 (rc_fr0 _ _) (rc_frT g2 q4) q5)
      · exact br_t rfl (no (by show (_ && _) = false; rw [t1, t0]; rfl))
    · exact br_t rfl (no (by show (_ && _) = false; rw [t0]; rfl))
  · refine ⟨pk_in s 5 hs, fun x4 e4 => ?_⟩
    subst e4
    refine pk_eq m.2.1 5 (fun k5 => ?_) (fun k5 => ⟨pk_in t 5 ht, ?_⟩)
    · have e : rc_meet r m y o = ((m.1, (if y = 4 then 5 else y), m.2.2), o) := by
        simp only [rc_meet, rc_mo, rc_mb, rc_mh, k2, k5, if_true, if_false]
      rw [e] at H
      subst hg
      exact rc_m190 hs hy (fun b9 g1 g2 => H a8 b9 a10 a12 ⟨hb, g1, hd⟩ (rc_fr0 _ _) g2 (rc_fr0 _ _) hA)
    · have hl : m.2.1 < 4 := by omega
      have e0 : ¬ (m.2.1 = r.2.1 ∧ rc_hit r m.1 y = true) → rc_meet r m y o = ((m.2.1, (if y = 4 then 5 else y), (rc_ho m.2.1 (m.2.2, o)).1), (rc_ho m.2.1 (m.2.2, o)).2) := by
        intro z
        simp only [rc_meet, rc_mo, rc_mb, rc_mh, k2, k5, z, if_false]
      have e1 : m.2.1 = r.2.1 → rc_hit r m.1 y = true → rc_meet r m y o = ((m.2.1, (if y = 4 then 5 else y), (if r.1 = 0 then rc_ho r.2.2.1 (m.2.2, o) else (m.2.2, o)).1), (if r.1 = 0 then rc_ho r.2.2.1 (m.2.2, o) else (m.2.2, o)).2) := by
        intro z1 z2
        have z : (m.2.1 = r.2.1 ∧ rc_hit r m.1 y = true) := ⟨z1, z2⟩
        unfold rc_meet rc_mo rc_mb rc_mh
        rw [if_neg k2, if_neg k2, if_neg k2, if_neg k5, if_neg k5, if_pos z]
      have no : ¬ (m.2.1 = r.2.1 ∧ rc_hit r m.1 y = true) → wX_meet_143 post (nI s) (nI y) (nI t) (nI m.2.1) ru sz li co go re wa fo la a1 a2 a3 a4 a5 a6 a7 a8 a9 a10 a11 a12 a13 a14 a15 a16 a17 a18 := by
        intro z
        rw [e0 z] at H
        unfold wX_meet_143
        exact rc_m144_0 hs hy hl hd w3 ho hg hA (fun b8 b9 b10 b12 g1 g2 g3 g4 g5 g6 g7 => H b8 b9 b10 b12 ⟨g1, g3, g5⟩ g2 g4 g6 g7)
      refine pk_eq m.2.1 r.2.1 (fun kf => ⟨pk_in t 5 ht, pk_in s 5 hs, ?_⟩) (fun kf => no (fun z => kf z.1))
      refine rc_allows v4 (by omega) (fun t1 => ?_) (fun t0 => ?_)
      · refine br_f (by decide) ⟨pk_in t 5 ht, rc_allows v5 (by omega) (fun t2 => ?_) (fun t0 => ?_)⟩
        · have z : rc_hit r m.1 y = true := by show (_ && _) = true; rw [t1, t2]; rfl
          rw [e1 kf z] at H
          exact br_f (by decide) (rc_m144_1 hs hy hl hd w3 ho hg hA ht h1 v1 h3 v3 (fun b8 b9 b10 b12 g1 g2 g3 g4 g5 g6 g7 => H b8 b9 b10 b12 ⟨g1, g3, g5⟩ g2 g4 g6 g7))
        · refine br_t rfl (no (fun z => ?_))
          have z' : (_ && _) = true := z.2
          rw [t1, t0] at z'
          exact absurd z' (by decide)
      · refine br_t rfl (no (fun z => ?_))
        have z' : (_ && _) = true := z.2
        rw [t0] at z'
        exact absurd z' (by simp)
end
section
/-! exchangeWays, passRule -/
theorem rc_exch {post : St2 → Prop} {ru sz li co go re wa fo la : Int32} {a1 a2 a3 a4 a5 a6 a7 a8 a9 a10 a11 a12 a13 : Nat → Int32} {a14 : Nat → Int64} {a15 : Nat → Int32} {a16 : Nat → Int64} {a17 a18 : Nat → Int32} {o : List Nat} (ho : o.length ≤ 12) (hg : go = nI o.length) (hA : rc_A a12 o) (H : ∀ b11, rc_A b11 o → post (ru, sz, li, (nI o.length), (nI o.length), re, wa, fo, la, a1, a2, a3, a4, a5, a6, a7, a8, a9, a10, b11, a12, a13, a14, a15, a16, a17, a18)) : wpX_exchangeWays post (ru, sz, li, co, go, re, wa, fo, la, a1, a2, a3, a4, a5, a6, a7, a8, a9, a10, a11, a12, a13, a14, a15, a16, a17, a18) := by
  subst hg
  unfold wpX_exchangeWays
  dsimp only
  refine pk_loop (fun n i (s : Nat → Int32) => wX_exchangeWays_2 post ru sz li co (nI o.length) re wa fo la n (nI i) a1 a2 a3 a4 a5 a6 a7 a8 a9 a10 s a12 a13 a14 a15 a16 a17 a18) (fun i s => ∀ j, j < i → s j = a12 j) o.length 0 a11 (by omega) (fun j hj => absurd hj (by omega)) ?_ ?_
  · intro n s h
    exact pk_le o.length o.length (fun _ => H s (rc_A_fr hA h)) (fun z => absurd z (by omega))
  · intro n i s hi h hw
    obtain ⟨v, _, hv, e⟩ := rc_A_at hA hi
    refine pk_le o.length i (fun z => absurd z (by omega)) (fun _ => ⟨pk_in i 80 (by omega), pk_in i 80 (by omega), nm_e (nm_r (nI_1 i) (hw _ ?_))⟩)
    intro j hj
    rw [nI_clamp (show i < 2 ^ 31 by omega), e, rc_n8 (show v < 128 by omega)]
    by_cases c : j = i
    · rw [c, pk_us, e]
    · rw [pk_un c]
      exact h j (by omega)
def rc_fin (r : rc_R) (m : rc_M) (ls o : List Nat) (last : Bool) : rc_M × List Nat :=
  if last = true then rc_meet r (rc_fold r m ls o).1 4 (rc_fold r m ls o).2 else rc_fold r m ls o
theorem rc_p42 {post : St2 → Prop} {ru sz li co go re wa fo la : Int32} {a1 a2 a3 a4 a5 a6 a7 a8 a9 a10 a11 a12 a13 : Nat → Int32} {a14 : Nat → Int64} {a15 : Nat → Int32} {a16 : Nat → Int64} {a17 a18 : Nat → Int32} {o : List Nat} (ho : o.length ≤ 12) (hg : go = nI o.length) (hA : rc_A a12 o) (H : ∀ b11, rc_A b11 o → post (ru, sz, li, (nI o.length), (nI o.length), re, wa, fo, la, a1, a2, a3, a4, a5, a6, a7, a8, a9, a10, b11, a12, a13, a14, a15, a16, a17, a18)) : wX_passRule_42 post ru sz li co go re wa fo la a1 a2 a3 a4 a5 a6 a7 a8 a9 a10 a11 a12 a13 a14 a15 a16 a17 a18 := by
  unfold wX_passRule_42
  exact rc_exch ho hg hA H
theorem rc_pass7 {post : St2 → Prop} {s : Nat} {r : rc_R} {last : Bool} (hs : s < 5) (hr : rc_Rv r) (ls : List Nat) : ∀ (n i : Nat) (m : rc_M) (o : List Nat) {ru sz li co go re wa fo la : Int32} {a1 a2 a3 a4 a5 a6 a7 a8 a9 a10 a11 a12 a13 : Nat → Int32} {a14 : Nat → Int64} {a15 : Nat → Int32} {a16 : Nat → Int64} {a17 a18 : Nat → Int32}, ls.length < n → i + ls.length ≤ 12 → (∀ j v, ls[j]? = some v → v < 4 ∧ a11 (i + j) = nI v) → co = nI (i + ls.length) → rc_Mv m → rc_L a1 a2 a3 a4 a5 a7 s r → rc_Mm a8 a9 a10 s m → o.length ≤ m.2.2 → go = nI o.length → rc_A a12 o →
    (∀ b8 b9 b10 b11 b12, rc_Mm b8 b9 b10 s (rc_fin r m ls o last).1 → rc_fr s a8 b8 → rc_fr s a9 b9 → rc_fr s a10 b10 → rc_A b11 (rc_fin r m ls o last).2 → post (ru, sz, li, (nI (rc_fin r m ls o last).2.length), (nI (rc_fin r m ls o last).2.length), re, wa, fo, la, a1, a2, a3, a4, a5, a6, a7, b8, b9, b10, b11, b12, a13, a14, a15, a16, a17, a18)) →
    wX_passRule_7 post (nI s) (rc_b last) n (nI i) ru sz li co go re wa fo la a1 a2 a3 a4 a5 a6 a7 a8 a9 a10 a11 a12 a13 a14 a15 a16 a17 a18 := by
  induction ls with
  | nil =>
    intro n i m o ru sz li co go re wa fo la a1 a2 a3 a4 a5 a6 a7 a8 a9 a10 a11 a12 a13 a14 a15 a16 a17 a18 hn hi hC hco hm hL hM ho hg hA H
    cases n with
    | zero => exact absurd hn (by omega)
    | succ n =>
      refine pk_le i i (fun _ => ?_) (fun z => absurd z (by omega)) (by rw [hco]; rfl)
      cases last with
      | false =>
        have k : o.length ≤ 12 := Nat.le_trans ho hm.2.2
        exact br_t rfl (rc_p42 k hg hA (fun b11 q => H a8 a9 a10 b11 a12 hM (rc_fr0 _ _) (rc_fr0 _ _) (rc_fr0 _ _) q))
      | true =>
        have k := rc_meet_v (r := r) (y := 4) hm (by omega) ho
        exact br_f (by decide) (rc_meetW (y := 4) hs (by omega) hr hm hL hM ho hg hA (fun b8 b9 b10 b12 g1 g2 g3 g4 g5 => rc_p42 (Nat.le_trans k.2 k.1.2.2) rfl g5 (fun b11 q => H b8 b9 b10 b11 b12 g1 g2 g3 g4 q)))
  | cons y ys ih =>
    intro n i m o ru sz li co go re wa fo la a1 a2 a3 a4 a5 a6 a7 a8 a9 a10 a11 a12 a13 a14 a15 a16 a17 a18 hn hi hC hco hm hL hM ho hg hA H
    cases n with
    | zero => exact absurd hn (by omega)
    | succ n =>
      have hn' : ys.length < n := by rw [List.length_cons] at hn; omega
      have hi' : i + 1 + ys.length ≤ 12 := by rw [List.length_cons] at hi; omega
      obtain ⟨hy, e⟩ := hC 0 y rfl
      rw [Nat.add_zero] at e
      have k := rc_meet_v (r := r) (y := y) hm (by omega) ho
      refine pk_le (i + 1 + ys.length) i (fun z => absurd z (by omega)) (fun _ => ⟨pk_in i 80 (by omega), ?_⟩) (by rw [hco, List.length_cons]; congr 1; omega)
      rw [nI_clamp (show i < 2 ^ 31 by omega), e]
      refine rc_meetW hs (by omega) hr hm hL hM ho hg hA (fun b8 b9 b10 b12 g1 g2 g3 g4 g5 => nm_r (nI_1 i) ?_)
      refine ih n (i + 1) _ _ hn' hi' (fun j v hj => ?_) (by rw [hco, List.length_cons]; congr 1; omega) k.1 hL g1 k.2 rfl g5 (fun c8 c9 c10 c11 c12 q1 q2 q3 q4 q5 => H c8 c9 c10 c11 c12 q1 (rc_frT g2 q2) (rc_frT g3 q3) (rc_frT g4 q4) q5)
      have q := hC (j + 1) v hj
      rw [show i + 1 + j = i + (j + 1) by omega]
      exact q
theorem rc_passW {post : St2 → Prop} {ru sz li co go re wa fo la : Int32} {a1 a2 a3 a4 a5 a6 a7 a8 a9 a10 a11 a12 a13 : Nat → Int32} {a14 : Nat → Int64} {a15 : Nat → Int32} {a16 : Nat → Int64} {a17 a18 : Nat → Int32} {s : Nat} {r : rc_R} {m : rc_M} {ls : List Nat} {last : Bool} (hs : s < 5) (hr : rc_Rv r) (hm : rc_Mv m) (hL : rc_L a1 a2 a3 a4 a5 a7 s r) (hM : rc_Mm a8 a9 a10 s m) (hl : ls.length ≤ 12) (hco : co = nI ls.length) (hA : rc_A a11 ls)
    (H : ∀ b8 b9 b10 b11 b12, rc_Mm b8 b9 b10 s (rc_pass r m ls last).1 → rc_fr s a8 b8 → rc_fr s a9 b9 → rc_fr s a10 b10 → rc_A b11 (rc_pass r m ls last).2 → post (ru, sz, li, (nI (rc_pass r m ls last).2.length), (nI (rc_pass r m ls last).2.length), re, wa, fo, la, a1, a2, a3, a4, a5, a6, a7, b8, b9, b10, b11, b12, a13, a14, a15, a16, a17, a18)) : wpX_passRule post (ru, sz, li, co, go, re, wa, fo, la, a1, a2, a3, a4, a5, a6, a7, a8, a9, a10, a11, a12, a13, a14, a15, a16, a17, a18) (nI s) (rc_b last) := by
  unfold wpX_passRule
  dsimp only
  refine ⟨ls.length + 1, ?_⟩
  exact rc_pass7 (last := last) hs hr ls (ls.length + 1) 0 m [] (by omega) (by omega) (fun j v hj => by rw [Nat.zero_add]; exact hA j v hj) (by rw [hco, Nat.zero_add]) hm hL hM (Nat.zero_le _) rfl (rc_A_nil _) H
/-! feed -/
theorem rc_line_le (rs : List rc_R) : ∀ (ms : List rc_M) (ls : List Nat) (last : Bool), (∀ m, m ∈ ms → rc_Mv m) → (∀ y, y ∈ ls → y < 5) → (∀ r, r ∈ rs → rc_Rv r) → ls.length ≤ 12 → (rc_line rs ms ls last).2.length ≤ 12 := by
  induction rs with
  | nil => intro ms ls last _ _ _ h; exact h
  | cons r rs ih =>
    intro ms ls last hm hl hr h
    cases ms with
    | nil => exact h
    | cons m ms =>
      have hm0 : rc_Mv m := hm m (by simp)
      have k := rc_pass_v (r := r) (last := last) hm0 hl
      exact ih ms _ last (fun m' q => hm m' (by simp [q])) (fun y q => Nat.lt_succ_of_lt (rc_pass_l (hr r (by simp)) hm0 hl y q)) (fun r' q => hr r' (by simp [q])) (Nat.le_trans k.2 k.1.2.2)
theorem rc_A_mem {a : Nat → Int32} {l : List Nat} (h : rc_A a l) : ∀ y, y ∈ l → y < 4 := by
  intro y hy
  obtain ⟨i, hi, e⟩ := List.mem_iff_getElem.mp hy
  exact (h i y (by rw [List.getElem?_eq_getElem hi, e])).1
theorem rc_feed25 {post : St2 → Prop} {y : Nat} (hy : y < 5) (rs : List rc_R) : ∀ (ms : List rc_M) (n s : Nat) (ls : List Nat) {ru sz li co go re wa fo la : Int32} {a1 a2 a3 a4 a5 a6 a7 a8 a9 a10 a11 a12 a13 : Nat → Int32} {a14 : Nat → Int64} {a15 : Nat → Int32} {a16 : Nat → Int64} {a17 a18 : Nat → Int32}, rs.length < n → rs.length = ms.length → s + rs.length ≤ 5 → li = nI (s + rs.length) → (∀ r, r ∈ rs → rc_Rv r) → (∀ m, m ∈ ms → rc_Mv m) → (∀ j r, rs[j]? = some r → rc_L a1 a2 a3 a4 a5 a7 (s + j) r) → (∀ j m, ms[j]? = some m → rc_Mm a8 a9 a10 (s + j) m) → ls.length ≤ 12 → co = nI ls.length → rc_A a11 ls →
    (∀ c g b8 b9 b10 b11 b12, c = nI (rc_line rs ms ls (decide (y = 4))).2.length → rc_A b11 (rc_line rs ms ls (decide (y = 4))).2 → (rc_line rs ms ls (decide (y = 4))).2.length ≤ 12 → (∀ j m, (rc_line rs ms ls (decide (y = 4))).1[j]? = some m → rc_Mm b8 b9 b10 (s + j) m) → (∀ j, j < s → b8 j = a8 j ∧ b9 j = a9 j ∧ b10 j = a10 j) → ∃ fu, wX_feed_56 post ru sz li c g fo la fu 0 re wa a1 a2 a3 a4 a5 a6 a7 b8 b9 b10 b11 b12 a13 a14 a15 a16 a17 a18) →
    wX_feed_25 post (nI y) n (nI s) ru sz li co go re wa fo la a1 a2 a3 a4 a5 a6 a7 a8 a9 a10 a11 a12 a13 a14 a15 a16 a17 a18 := by
  induction rs with
  | nil =>
    intro ms n s ls ru sz li co go re wa fo la a1 a2 a3 a4 a5 a6 a7 a8 a9 a10 a11 a12 a13 a14 a15 a16 a17 a18 hn hms hs5 hli hRv hMv hL hM hl hco hA H
    cases n with
    | zero => exact absurd hn (by omega)
    | succ n =>
      have ems : ms = [] := List.length_eq_zero_iff.mp hms.symm
      subst ems
      exact pk_le s s (fun _ => H co go a8 a9 a10 a11 a12 hco hA hl (fun j m hj => absurd hj (by simp [rc_line])) (fun j _ => ⟨rfl, rfl, rfl⟩)) (fun z => absurd z (by omega)) (by rw [hli]; rfl)
  | cons r rs ih =>
    intro ms n s ls ru sz li co go re wa fo la a1 a2 a3 a4 a5 a6 a7 a8 a9 a10 a11 a12 a13 a14 a15 a16 a17 a18 hn hms hs5 hli hRv hMv hL hM hl hco hA H
    cases n with
    | zero => exact absurd hn (by omega)
    | succ n =>
      cases ms with
      | nil => exact absurd hms (by simp)
      | cons m ms =>
        have hn' : rs.length < n := by rw [List.length_cons] at hn; omega
        have hms' : rs.length = ms.length := by simpa using hms
        have hs5' : s + 1 + rs.length ≤ 5 := by rw [List.length_cons] at hs5; omega
        have hli' : li = nI (s + 1 + rs.length) := by rw [hli, List.length_cons]; congr 1; omega
        have hr0 : rc_Rv r := hRv r (by simp)
        have hm0 : rc_Mv m := hMv m (by simp)
        have hl5 : ∀ z, z ∈ ls → z < 5 := fun z q => Nat.lt_succ_of_lt (rc_A_mem hA z q)
        have k := rc_pass_v (r := r) (last := decide (y = 4)) hm0 hl5
        have step : wpX_passRule (fun u => match u with
            | (ru, sz, li, co, go, re, wa, fo, la, a1, a2, a3, a4, a5, a6, a7, a8, a9, a10, a11, a12, a13, a14, a15, a16, a17, a18) => ∀ x2 : Int32, x2 = nI s + 1 → wX_feed_25 post (nI y) n x2 ru sz li co go re wa fo la a1 a2 a3 a4 a5 a6 a7 a8 a9 a10 a11 a12 a13 a14 a15 a16 a17 a18) (ru, sz, li, co, go, re, wa, fo, la, a1, a2, a3, a4, a5, a6, a7, a8, a9, a10, a11, a12, a13, a14, a15, a16, a17, a18) (nI s) (rc_b (decide (y = 4))) := by
          refine rc_passW (by omega) hr0 hm0 (hL 0 r rfl) (hM 0 m rfl) hl hco hA (fun b8 b9 b10 b11 b12 g1 g2 g3 g4 g5 => nm_r (nI_1 s) ?_)
          refine ih ms n (s + 1) _ hn' hms' hs5' hli' (fun r' q => hRv r' (by simp [q])) (fun m' q => hMv m' (by simp [q])) (fun j r' q => ?_) (fun j m' q => ?_) (Nat.le_trans k.2 k.1.2.2) rfl g5 (fun c g c8 c9 c10 c11 c12 q1 q2 q3 q4 q5 => H c g c8 c9 c10 c11 c12 q1 q2 q3 (fun j m' q => ?_) (fun j hj => ?_))
          · rw [show s + 1 + j = s + (j + 1) by omega]
            exact hL (j + 1) r' q
          · have q' := hM (j + 1) m' q
            rw [show s + 1 + j = s + (j + 1) by omega]
            obtain ⟨z1, z2, z3⟩ := q'
            exact ⟨by rw [g2 _ (by omega), z1], by rw [g3 _ (by omega), z2], by rw [g4 _ (by omega), z3]⟩
          · cases j with
            | zero =>
              have e : (rc_pass r m ls (decide (y = 4))).1 = m' := Option.some.inj q
              rw [← e, Nat.add_zero]
              obtain ⟨z1, z2, z3⟩ := q5 s (by omega)
              obtain ⟨y1, y2, y3⟩ := g1
              exact ⟨by rw [z1, y1], by rw [z2, y2], by rw [z3, y3]⟩
            | succ j =>
              rw [show s + (j + 1) = s + 1 + j by omega]
              exact q4 j m' q
          · obtain ⟨z1, z2, z3⟩ := q5 j (by omega)
            exact ⟨by rw [z1, g2 j (by omega)], by rw [z2, g3 j (by omega)], by rw [z3, g4 j (by omega)]⟩
        refine pk_le (s + 1 + rs.length) s (fun z => absurd z (by omega)) (fun _ => ?_) hli'
        refine pk_eq y 4 (fun e => ?_) (fun e => ?_)
        · rw [decide_eq_true e] at step
          unfold wX_feed_45
          exact step
        · rw [decide_eq_false e] at step
          unfold wX_feed_45
          exact step
theorem rc_f130 {post : St2 → Prop} {J : Int32 → Int32 → Int32 → (Nat → Int32) → (Nat → Int32) → (Nat → Int32) → (Nat → Int32) → (Nat → Int32) → (Nat → Int32) → (Nat → Int32) → (Nat → Int32) → (Nat → Int32) → (Nat → Int32) → (Nat → Int32) → (Nat → Int32) → (Nat → Int32) → (Nat → Int64) → (Nat → Int32) → (Nat → Int64) → (Nat → Int32) → (Nat → Int32) → Prop} {ru sz li co go re wa fo la : Int32} {a1 a2 a3 a4 a5 a6 a7 a8 a9 a10 a11 a12 a13 : Nat → Int32} {a14 : Nat → Int64} {a15 : Nat → Int32} {a16 : Nat → Int64} {a17 a18 : Nat → Int32} {i r : Nat} (w : Bool) (hre : re = nI r) (H : J (nI (i + 1)) (nI (r + 1)) (rc_b w) a1 a2 a3 a4 a5 a6 a7 a8 a9 a10 a11 a12 a13 a14 a15 a16 a17 a18) : wX_feed_130 post J (nI i) (rc_b w) ru sz li co go re wa fo la a1 a2 a3 a4 a5 a6 a7 a8 a9 a10 a11 a12 a13 a14 a15 a16 a17 a18 := by
  subst hre
  unfold wX_feed_130
  refine ⟨?_, ?_, nm_r (nI_1 r) (nm_r (nI_1 i) H)⟩
  · cases w <;> rfl
  · cases w <;> rfl
theorem rc_feed56 {post : St2 → Prop} {W : List Nat} (hW : W.length ≤ 12) (ls : List Nat) : ∀ (n i r : Nat) (w : Bool) {ru sz li co go re wa fo la : Int32} {a1 a2 a3 a4 a5 a6 a7 a8 a9 a10 a11 a12 a13 : Nat → Int32} {a14 : Nat → Int64} {a15 : Nat → Int32} {a16 : Nat → Int64} {a17 a18 : Nat → Int32}, ls.length < n → i + ls.length ≤ 12 → co = nI (i + ls.length) → (∀ j v, ls[j]? = some v → v < 4 ∧ a11 (i + j) = nI v) → r ≤ 12 → sz = nI W.length → rc_A a6 W → re = nI r → wa = rc_b w →
    (∀ b13, (∀ j, j < r → b13 j = a13 j) → (∀ j v, (ls.take (12 - r))[j]? = some v → b13 (r + j) = nI v) → post (ru, sz, li, co, go, (nI (rc_emit W r w ls).1), (rc_b (rc_emit W r w ls).2), fo, la, a1, a2, a3, a4, a5, a6, a7, a8, a9, a10, a11, a12, b13, a14, a15, a16, a17, a18)) →
    wX_feed_56 post ru sz li co go fo la n (nI i) re wa a1 a2 a3 a4 a5 a6 a7 a8 a9 a10 a11 a12 a13 a14 a15 a16 a17 a18 := by
  induction ls with
  | nil =>
    intro n i r w ru sz li co go re wa fo la a1 a2 a3 a4 a5 a6 a7 a8 a9 a10 a11 a12 a13 a14 a15 a16 a17 a18 hn hi hco hC hr hsz hA6 hre hwa H
    cases n with
    | zero => exact absurd hn (by omega)
    | succ n =>
      subst hre hwa
      exact pk_le i i (fun _ => H a13 (fun _ _ => rfl) (fun j v hj => absurd hj (by simp))) (fun z => absurd z (by omega)) (by rw [hco]; rfl)
  | cons y ys ih =>
    intro n i r w ru sz li co go re wa fo la a1 a2 a3 a4 a5 a6 a7 a8 a9 a10 a11 a12 a13 a14 a15 a16 a17 a18 hn hi hco hC hr hsz hA6 hre hwa H
    cases n with
    | zero => exact absurd hn (by omega)
    | succ n =>
      have hn' : ys.length < n := by rw [List.length_cons] at hn; omega
      have hi' : i + 1 + ys.length ≤ 12 := by rw [List.length_cons] at hi; omega
      have hco' : co = nI (i + 1 + ys.length) := by rw [hco, List.length_cons]; congr 1; omega
      obtain ⟨hy, e⟩ := hC 0 y rfl
      rw [Nat.add_zero] at e
      have hC' : ∀ j v, ys[j]? = some v → v < 4 ∧ a11 (i + 1 + j) = nI v := by
        intro j v hj
        rw [show i + 1 + j = i + (j + 1) by omega]
        exact hC (j + 1) v hj
      refine pk_le (i + 1 + ys.length) i (fun z => absurd z (by omega)) (fun _ => ?_) hco'
      refine pk_le 12 r (fun z => nm_r (nI_1 i) ?_) (fun z => ⟨pk_in i 80 (by omega), pk_in r 12 (by omega) hre, ?_⟩) rfl hre
      · have hr12 : r = 12 := by omega
        have e1 : rc_emit W r w (y :: ys) = rc_emit W r w ys := by
          simp only [rc_emit, show ¬ r < 12 by omega, if_false]
        rw [e1] at H
        refine ih n (i + 1) r w hn' hi' hco' hC' hr hsz hA6 hre hwa (fun b13 g1 g2 => H b13 g1 (fun j v hj => ?_))
        rw [show 12 - r = 0 by omega] at hj
        exact absurd hj (by simp)
      · have cr : re.toNatClampNeg = r := by rw [hre]; exact nI_clamp (by omega)
        rw [nI_clamp (show i < 2 ^ 31 by omega), cr, e, rc_n8 (show y < 128 by omega)]
        refine fun b13 e13 => ?_
        have e1 : rc_emit W r w (y :: ys) = rc_emit W (r + 1) (w && decide (W[r]? = some y)) ys := by
          simp only [rc_emit, show r < 12 by omega, if_true]
        rw [e1] at H
        have go_on : ∀ w', (w && decide (W[r]? = some y)) = w' → wX_feed_130 post (wX_feed_56 post ru sz li co go fo la n) (nI i) (rc_b w') ru sz li co go re wa fo la a1 a2 a3 a4 a5 a6 a7 a8 a9 a10 a11 a12 b13 a14 a15 a16 a17 a18 := by
          intro w' ew
          rw [ew] at H
          refine rc_f130 w' hre ?_
          refine ih n (i + 1) (r + 1) w' hn' hi' hco' hC' (by omega) hsz hA6 rfl rfl (fun c13 g1 g2 => H c13 (fun j hj => ?_) (fun j v hj => ?_))
          · rw [g1 j (by omega), e13, pk_un (by omega)]
          · rw [show 12 - r = (12 - (r + 1)) + 1 by omega, List.take_succ_cons] at hj
            cases j with
            | zero =>
              have ev : y = v := Option.some.inj hj
              rw [Nat.add_zero, g1 r (by omega), e13, pk_us, ev]
            | succ j =>
              rw [show r + (j + 1) = r + 1 + j by omega]
              exact g2 j v hj
        subst hwa
        cases w with
        | false =>
          refine br_t rfl ?_
          unfold wX_feed_129
          exact go_on false rfl
        | true =>
          refine br_f (by decide) (pk_le W.length r (fun z => ?_) (fun z => ⟨pk_in r 12 (by omega) hre, pk_in i 80 (by omega), ?_⟩) hsz hre)
          · unfold wX_feed_129
            refine go_on false ?_
            rw [List.getElem?_eq_none z]
            rfl
          · obtain ⟨c, hc, hc4, ec⟩ := rc_A_at hA6 z
            rw [ec]
            refine pk_eq c y (fun q => ?_) (fun q => ?_)
            · refine go_on true ?_
              rw [hc, q]
              simp
            · unfold wX_feed_129
              refine go_on false ?_
              rw [hc]
              simp [q]
/-- the letters that a symbol brings -/
def rc_in (y : Nat) : List Nat := if y = 4 then [] else [y]
theorem rc_feedW {post : St2 → Prop} {ru sz li co go re wa fo la : Int32} {a1 a2 a3 a4 a5 a6 a7 a8 a9 a10 a11 a12 a13 : Nat → Int32} {a14 : Nat → Int64} {a15 : Nat → Int32} {a16 : Nat → Int64} {a17 a18 : Nat → Int32} {y r : Nat} {w : Bool} {rs : List rc_R} {ms : List rc_M} {W : List Nat} (hy : y < 5) (hms : rs.length = ms.length) (h5 : rs.length ≤ 5) (hli : li = nI rs.length) (hRv : ∀ r, r ∈ rs → rc_Rv r) (hMv : ∀ m, m ∈ ms → rc_Mv m) (hL : ∀ j r, rs[j]? = some r → rc_L a1 a2 a3 a4 a5 a7 j r) (hM : ∀ j m, ms[j]? = some m → rc_Mm a8 a9 a10 j m)
    (hW : W.length ≤ 12) (hr : r ≤ 12) (hsz : sz = nI W.length) (hA6 : rc_A a6 W) (hre : re = nI r) (hwa : wa = rc_b w)
    (H : ∀ c g b8 b9 b10 b11 b12 b13, (∀ j m, (rc_line rs ms (rc_in y) (decide (y = 4))).1[j]? = some m → rc_Mm b8 b9 b10 j m) → (∀ j, j < r → b13 j = a13 j) → (∀ j v, ((rc_line rs ms (rc_in y) (decide (y = 4))).2.take (12 - r))[j]? = some v → b13 (r + j) = nI v) → post (ru, sz, li, c, g, (nI (rc_emit W r w (rc_line rs ms (rc_in y) (decide (y = 4))).2).1), (rc_b (rc_emit W r w (rc_line rs ms (rc_in y) (decide (y = 4))).2).2), fo, la, a1, a2, a3, a4, a5, a6, a7, b8, b9, b10, b11, b12, b13, a14, a15, a16, a17, a18)) : wpX_feed post (ru, sz, li, co, go, re, wa, fo, la, a1, a2, a3, a4, a5, a6, a7, a8, a9, a10, a11, a12, a13, a14, a15, a16, a17, a18) (nI y) := by
  have main : ∀ (c : Int32) (b11 : Nat → Int32), c = nI (rc_in y).length → rc_A b11 (rc_in y) → ∃ fu, wX_feed_25 post (nI y) fu 0 ru sz li c go re wa fo la a1 a2 a3 a4 a5 a6 a7 a8 a9 a10 b11 a12 a13 a14 a15 a16 a17 a18 := by
    intro c b11 hc hA
    refine ⟨rs.length + 1, ?_⟩
    have hl : (rc_in y).length ≤ 12 := by unfold rc_in; split <;> simp
    refine rc_feed25 hy rs ms (rs.length + 1) 0 (rc_in y) (by omega) hms (by omega) (by rw [hli, Nat.zero_add]) hRv hMv (fun j r' q => by rw [Nat.zero_add]; exact hL j r' q) (fun j m q => by rw [Nat.zero_add]; exact hM j m q) hl hc hA (fun c' g' b8 b9 b10 b11' b12 q1 q2 q3 q4 q5 => ?_)
    refine ⟨(rc_line rs ms (rc_in y) (decide (y = 4))).2.length + 1, ?_⟩
    refine rc_feed56 hW (rc_line rs ms (rc_in y) (decide (y = 4))).2 _ 0 r w (by omega) (by omega) (by rw [q1, Nat.zero_add]) (fun j v hj => by rw [Nat.zero_add]; exact q2 j v hj) hr hsz hA6 hre hwa (fun b13 g1 g2 => H c' g' b8 b9 b10 b11' b12 b13 (fun j m q => ?_) g1 g2)
    have := q4 j m q
    rw [Nat.zero_add] at this
    exact this
  unfold wpX_feed
  dsimp only
  refine pk_eq y 4 (fun e => ?_) (fun e => fun b11 e11 => ?_)
  · have ei : rc_in y = [] := if_pos e
    exact main 0 a11 (by rw [ei]; rfl) (by rw [ei]; exact rc_A_nil _)
  · have ei : rc_in y = [y] := if_neg e
    refine main 1 b11 (by rw [ei]; rfl) ?_
    rw [ei, e11, rc_b8 y (by omega)]
    exact rc_A_snoc (rc_A_nil a11) (by omega)
end
section
/-! useFirst, begin, codeOfResult -/
theorem rc_useFirst {post : St2 → Prop} {ru sz li co go re wa fo la : Int32} {a1 a2 a3 a4 a5 a6 a7 a8 a9 a10 a11 a12 a13 : Nat → Int32} {a14 : Nat → Int64} {a15 : Nat → Int32} {a16 : Nat → Int64} {a17 a18 : Nat → Int32} {k : Nat} {p : Int32} (hp : p = nI k) (hk : k ≤ 5) (H : ∀ b7, (∀ s, s < k → b7 s = nI s) → post (ru, sz, (nI k), co, go, re, wa, fo, la, a1, a2, a3, a4, a5, a6, b7, a8, a9, a10, a11, a12, a13, a14, a15, a16, a17, a18)) : wpX_useFirst post (ru, sz, li, co, go, re, wa, fo, la, a1, a2, a3, a4, a5, a6, a7, a8, a9, a10, a11, a12, a13, a14, a15, a16, a17, a18) p := by
  subst hp
  unfold wpX_useFirst
  dsimp only
  refine pk_loop (fun n i (s : Nat → Int32) => wX_useFirst_7 post (nI k) ru sz (nI k) co go re wa fo la n (nI i) a1 a2 a3 a4 a5 a6 s a8 a9 a10 a11 a12 a13 a14 a15 a16 a17 a18) (fun i s => ∀ j, j < i → s j = nI j) k 0 a7 (by omega) (fun j hj => absurd hj (by omega)) ?_ ?_
  · intro n s h
    exact pk_le k k (fun _ => H s h) (fun z => absurd z (by omega))
  · intro n i s hi h hw
    refine pk_le k i (fun z => absurd z (by omega)) (fun _ => ⟨pk_in i 5 (by omega), nm_e (nm_r (nI_1 i) (hw _ ?_))⟩)
    intro j hj
    rw [nI_clamp (show i < 2 ^ 31 by omega), rc_b8 i (by omega)]
    by_cases c : j = i
    · rw [c, pk_us]
    · rw [pk_un c]
      exact h j (by omega)
theorem rc_begin {post : St2 → Prop} {ru sz li co go re wa fo la : Int32} {a1 a2 a3 a4 a5 a6 a7 a8 a9 a10 a11 a12 a13 : Nat → Int32} {a14 : Nat → Int64} {a15 : Nat → Int32} {a16 : Nat → Int64} {a17 a18 : Nat → Int32} (H : ∀ b8 b9 b10, (∀ s, s < 5 → rc_Mm b8 b9 b10 s (4, 5, 0)) → post (ru, sz, li, co, go, 0, 1, fo, la, a1, a2, a3, a4, a5, a6, a7, b8, b9, b10, a11, a12, a13, a14, a15, a16, a17, a18)) : wpX_begin post (ru, sz, li, co, go, re, wa, fo, la, a1, a2, a3, a4, a5, a6, a7, a8, a9, a10, a11, a12, a13, a14, a15, a16, a17, a18) := by
  unfold wpX_begin
  dsimp only
  refine pk_loop (fun n i (s : (Nat → Int32) × (Nat → Int32) × (Nat → Int32)) => wX_begin_2 post ru sz li co go re wa fo la n (nI i) a1 a2 a3 a4 a5 a6 a7 s.1 s.2.1 s.2.2 a11 a12 a13 a14 a15 a16 a17 a18) (fun i s => ∀ j, j < i → rc_Mm s.1 s.2.1 s.2.2 j (4, 5, 0)) 5 0 (a8, a9, a10) (by omega) (fun j hj => absurd hj (by omega)) ?_ ?_
  · intro n s h
    exact pk_le 5 5 (fun _ => H s.1 s.2.1 s.2.2 h) (fun z => absurd z (by omega))
  · intro n i s hi h hw
    refine pk_le 5 i (fun z => absurd z (by omega)) (fun _ => ⟨pk_in i 5 hi, fun b8 e8 => ⟨pk_in i 5 hi, fun b9 e9 => ⟨pk_in i 5 hi, fun b10 e10 => nm_r (nI_1 i) (hw (b8, b9, b10) ?_)⟩⟩⟩)
    intro j hj
    rw [nI_clamp (show i < 2 ^ 31 by omega)] at e8 e9 e10
    show rc_Mm b8 b9 b10 j (4, 5, 0)
    rw [e8, e9, e10]
    by_cases c : j = i
    · rw [c]
      exact ⟨pk_us, pk_us, pk_us⟩
    · obtain ⟨z1, z2, z3⟩ := h j (by omega)
      exact ⟨by rw [pk_un c]; exact z1, by rw [pk_un c]; exact z2, by rw [pk_un c]; exact z3⟩
theorem rc_code4 {post : Int32 → Prop} {ru sz li co go re wa fo la : Int32} {a1 a2 a3 a4 a5 a6 a7 a8 a9 a10 a11 a12 a13 : Nat → Int32} {a14 : Nat → Int64} {a15 : Nat → Int32} {a16 : Nat → Int64} {a17 a18 : Nat → Int32} (ls : List Nat) : ∀ (n i c : Nat), ls.length < n → i + ls.length ≤ 12 → re = nI (i + ls.length) → (∀ j v, ls[j]? = some v → a13 (i + j) = nI v) → post (nI (ls.foldl (fun c d => 4 * c + d) c)) → wX_codeOfResult_4 post ru sz li co go re wa fo la a1 a2 a3 a4 a5 a6 a7 a8 a9 a10 a11 a12 a13 a14 a15 a16 a17 a18 n (nI c) (nI i) := by
  induction ls with
  | nil =>
    intro n i c hn hi hre hC H
    cases n with
    | zero => exact absurd hn (by omega)
    | succ n => exact pk_le i i (fun _ => H) (fun z => absurd z (by omega)) (by rw [hre]; rfl)
  | cons y ys ih =>
    intro n i c hn hi hre hC H
    cases n with
    | zero => exact absurd hn (by omega)
    | succ n =>
      have hre' : re = nI (i + 1 + ys.length) := by rw [hre, List.length_cons]; congr 1; omega
      have e : a13 i = nI y := hC 0 y rfl
      rw [List.length_cons] at hn hi
      refine pk_le (i + 1 + ys.length) i (fun z => absurd z (by omega)) (fun _ => ⟨pk_in i 12 (by omega), nm_r (e' := nI (4 * c + y)) ?_ (nm_r (nI_1 i) (ih n (i + 1) _ (by omega) (by omega) hre' (fun j v hj => ?_) H))⟩) hre'
      · rw [nI_clamp (show i < 2 ^ 31 by omega), e, show (4 : Int32) = nI 4 by rfl, pk_mul, nI_add]
      · rw [show i + 1 + j = i + (j + 1) by omega]
        exact hC (j + 1) v hj
theorem rc_codeW {post : Int32 → Prop} {ru sz li co go re wa fo la : Int32} {a1 a2 a3 a4 a5 a6 a7 a8 a9 a10 a11 a12 a13 : Nat → Int32} {a14 : Nat → Int64} {a15 : Nat → Int32} {a16 : Nat → Int64} {a17 a18 : Nat → Int32} {O : List Nat} (hO : O.length ≤ 12) (hre : re = nI O.length) (hA : rc_A a13 O) (H : post (nI (rc_code O))) : wpX_codeOfResult post (ru, sz, li, co, go, re, wa, fo, la, a1, a2, a3, a4, a5, a6, a7, a8, a9, a10, a11, a12, a13, a14, a15, a16, a17, a18) := by
  unfold wpX_codeOfResult
  dsimp only
  exact ⟨O.length + 1, rc_code4 O (O.length + 1) 0 1 (by omega) (by omega) (by rw [hre, Nat.zero_add]) (fun j v hj => by rw [Nat.zero_add]; exact (hA j v hj).2) H⟩
/-! a run -/
/-- what the line and the word are -/
def rc_J (rs : List rc_R) (W : List Nat) (li sz : Int32) (a1 a2 a3 a4 a5 a6 a7 : Nat → Int32) : Prop := li = nI rs.length ∧ rs.length ≤ 5 ∧ (∀ r, r ∈ rs → rc_Rv r) ∧ (∀ j r, rs[j]? = some r → rc_L a1 a2 a3 a4 a5 a7 j r) ∧ sz = nI W.length ∧ W.length ≤ 12 ∧ rc_A a6 W
theorem rc_take_app (O o1 o2 : List Nat) : O ++ (o1 ++ o2).take (12 - O.length) = (O ++ o1.take (12 - O.length)) ++ o2.take (12 - (O ++ o1.take (12 - O.length)).length) := by
  rw [List.take_append, List.append_assoc]
  congr 3
  rw [List.length_append, List.length_take]
  omega
theorem rc_feedO {post : St2 → Prop} {ru sz li co go re wa fo la : Int32} {a1 a2 a3 a4 a5 a6 a7 a8 a9 a10 a11 a12 a13 : Nat → Int32} {a14 : Nat → Int64} {a15 : Nat → Int32} {a16 : Nat → Int64} {a17 a18 : Nat → Int32} {y : Nat} {w : Bool} {rs : List rc_R} {ms : List rc_M} {W O : List Nat} (hy : y < 5) (hJ : rc_J rs W li sz a1 a2 a3 a4 a5 a6 a7) (hms : rs.length = ms.length) (hMv : ∀ m, m ∈ ms → rc_Mv m) (hM : ∀ j m, ms[j]? = some m → rc_Mm a8 a9 a10 j m) (hO : O.length ≤ 12) (hre : re = nI O.length) (hwa : wa = rc_b w) (hA : rc_A a13 O)
    (H : ∀ c g w' b8 b9 b10 b11 b12 b13, (∀ j m, (rc_line rs ms (rc_in y) (decide (y = 4))).1[j]? = some m → rc_Mm b8 b9 b10 j m) → rc_A b13 (O ++ (rc_line rs ms (rc_in y) (decide (y = 4))).2.take (12 - O.length)) → post (ru, sz, li, c, g, (nI (O ++ (rc_line rs ms (rc_in y) (decide (y = 4))).2.take (12 - O.length)).length), (rc_b w'), fo, la, a1, a2, a3, a4, a5, a6, a7, b8, b9, b10, b11, b12, b13, a14, a15, a16, a17, a18)) : wpX_feed post (ru, sz, li, co, go, re, wa, fo, la, a1, a2, a3, a4, a5, a6, a7, a8, a9, a10, a11, a12, a13, a14, a15, a16, a17, a18) (nI y) := by
  obtain ⟨j1, j2, j3, j4, j5, j6, j7⟩ := hJ
  refine rc_feedW hy hms j2 j1 j3 hMv j4 hM j6 hO j5 j7 hre hwa (fun c g b8 b9 b10 b11 b12 b13 g1 g2 g3 => ?_)
  have hin : ∀ z, z ∈ rc_in y → z < 4 := by
    intro z hz
    unfold rc_in at hz
    split at hz
    · exact absurd hz (by simp)
    · rw [List.mem_singleton.mp hz]; omega
  have hv := (rc_line_v rs ms (rc_in y) (decide (y = 4)) hms j3 hMv hin).2
  rw [rc_emit_r W _ O.length w hO]
  rw [← List.length_append]
  refine H c g _ b8 b9 b10 b11 b12 b13 g1 (fun j v hj => ?_)
  rw [List.getElem?_append] at hj
  split at hj
  · next q =>
    rw [g2 j q]
    exact hA j v hj
  · next q =>
    have e := g3 _ v hj
    rw [show O.length + (j - O.length) = j by omega] at e
    refine ⟨hv v ?_, e⟩
    obtain ⟨hi, ei⟩ := List.getElem?_eq_some_iff.mp hj
    rw [← ei]
    exact List.mem_of_mem_take (List.getElem_mem hi)
theorem rc_new_at {k j : Nat} {m : rc_M} (h : (rc_new k)[j]? = some m) : m = (4, 5, 0) := by
  unfold rc_new at h
  rw [List.getElem?_replicate] at h
  split at h
  · exact (Option.some.inj h).symm
  · exact absurd h (by simp)
theorem rc_new_mem {k : Nat} : ∀ m, m ∈ rc_new k → rc_Mv m := by
  intro m hm
  rw [(List.mem_replicate.mp hm).2]
  exact ⟨by decide, Or.inr rfl, by decide⟩
theorem rc_new_len (k : Nat) : (rc_new k).length = k := List.length_replicate
theorem rc_m1 (x : Int32) : x + (-1) = x - 1 := by rw [Int32.sub_eq_add_neg]
theorem rc_neg1 : (nI 0 - 1 < 0) := by decide
theorem rc_dgs : ∀ k, k < 6 → (((2 * nI k) &&& 31).toBitVec.smod 32).toNat = 2 * k := by decide +kernel
theorem rc_digI {w k : Nat} (hw : w < 2 ^ 31) (hk : k < 6) : (nI w >>> ((2 * nI k) &&& 31)) &&& 3 = nI (w / 4 ^ k % 4) := by
  rw [pk_shrN hw _ (2 * k) (rc_dgs k hk), Nat.pow_mul]
  have h2 : w / (2 ^ 2) ^ k < 2 ^ 32 := Nat.lt_of_le_of_lt (Nat.div_le_self _ _) (by omega)
  exact pk_andN h2 2 (by decide)
theorem rc_rn8 {post : Int32 → St2 → Prop} {rs : List rc_R} {W : List Nat} {x : Nat} (hx : x < 2 ^ 31) (k : Nat) : ∀ (n : Nat) (ms : List rc_M) (O : List Nat) (w : Bool) (x3 : Int32) {ru sz li co go re wa fo la : Int32} {a1 a2 a3 a4 a5 a6 a7 a8 a9 a10 a11 a12 a13 : Nat → Int32} {a14 : Nat → Int64} {a15 : Nat → Int32} {a16 : Nat → Int64} {a17 a18 : Nat → Int32}, k < n → k ≤ 5 → x3 = nI k - 1 → rc_J rs W li sz a1 a2 a3 a4 a5 a6 a7 → rs.length = ms.length → (∀ m, m ∈ ms → rc_Mv m) → (∀ j m, ms[j]? = some m → rc_Mm a8 a9 a10 j m) → O.length ≤ 12 → re = nI O.length → wa = rc_b w → rc_A a13 O →
    (∀ c g e z b8 b9 b10 b11 b12 b13, post (nI (rc_code (O ++ (rc_line rs ms (rc_dig k x) true).2.take (12 - O.length)))) (ru, sz, li, c, g, e, z, fo, la, a1, a2, a3, a4, a5, a6, a7, b8, b9, b10, b11, b12, b13, a14, a15, a16, a17, a18)) →
    wX_runNumber_8 post (nI x) n x3 ru sz li co go re wa fo la a1 a2 a3 a4 a5 a6 a7 a8 a9 a10 a11 a12 a13 a14 a15 a16 a17 a18 := by
  induction k with
  | zero =>
    intro n ms O w x3 ru sz li co go re wa fo la a1 a2 a3 a4 a5 a6 a7 a8 a9 a10 a11 a12 a13 a14 a15 a16 a17 a18 hn hk h3 hJ hms hMv hM hO hre hwa hA H
    cases n with
    | zero => exact absurd hn (by omega)
    | succ n =>
      subst h3
      refine br_t rc_neg1 (rc_feedO (y := 4) (by omega) hJ hms hMv hM hO hre hwa hA (fun c g w' b8 b9 b10 b11 b12 b13 g1 g2 => ?_))
      refine rc_codeW ?_ rfl g2 (H c g _ _ b8 b9 b10 b11 b12 b13)
      rw [List.length_append, List.length_take]
      omega
  | succ k ih =>
    intro n ms O w x3 ru sz li co go re wa fo la a1 a2 a3 a4 a5 a6 a7 a8 a9 a10 a11 a12 a13 a14 a15 a16 a17 a18 hn hk h3 hJ hms hMv hM hO hre hwa hA H
    cases n with
    | zero => exact absurd hn (by omega)
    | succ n =>
      have h3' : x3 = nI k := by rw [h3, nI_pred]
      subst h3'
      have hl : x / 4 ^ k % 4 < 4 := Nat.mod_lt _ (by omega)
      refine br_f (nI_pos (by omega)) ?_
      rw [rc_digI hx (by omega)]
      refine rc_feedO (by omega) hJ hms hMv hM hO hre hwa hA (fun c g w' b8 b9 b10 b11 b12 b13 g1 g2 => nm_r (rc_m1 _) ?_)
      have ei : rc_in (x / 4 ^ k % 4) = [x / 4 ^ k % 4] := if_neg (by omega)
      have ed : decide (x / 4 ^ k % 4 = 4) = false := decide_eq_false (by omega)
      rw [ei, ed] at g1 g2 ⊢
      have hv := rc_line_v rs ms [x / 4 ^ k % 4] false hms hJ.2.2.1 hMv (by intro z hz; rw [List.mem_singleton.mp hz]; exact hl)
      refine ih n _ _ w' _ (by omega) (by omega) rfl hJ (rc_line_len rs ms _ false hms).symm hv.1 g1 ?_ rfl rfl g2 (fun c g e z c8 c9 c10 c11 c12 c13 => ?_)
      · rw [List.length_append, List.length_take]
        omega
      · have e1 : rc_dig (k + 1) x = [x / 4 ^ k % 4] ++ rc_dig k x := rfl
        have H' := H c g e z c8 c9 c10 c11 c12 c13
        rw [e1, rc_line_app rs ms _ _ true hms] at H'
        dsimp only at H'
        rw [rc_take_app] at H'
        exact H'
theorem rc_runNumber {post : Int32 → St2 → Prop} {ru sz li co go re wa fo la : Int32} {a1 a2 a3 a4 a5 a6 a7 a8 a9 a10 a11 a12 a13 : Nat → Int32} {a14 : Nat → Int64} {a15 : Nat → Int32} {a16 : Nat → Int64} {a17 a18 : Nat → Int32} {rs : List rc_R} {W : List Nat} {x n : Nat} (hx : x < 2 ^ 31) (hn : n ≤ 5) (hJ : rc_J rs W li sz a1 a2 a3 a4 a5 a6 a7)
    (H : ∀ c g e z b8 b9 b10 b11 b12 b13, post (nI (rc_code (rc_F rs (rc_dig n x)))) (ru, sz, li, c, g, e, z, fo, la, a1, a2, a3, a4, a5, a6, a7, b8, b9, b10, b11, b12, b13, a14, a15, a16, a17, a18)) : wpX_runNumber post (ru, sz, li, co, go, re, wa, fo, la, a1, a2, a3, a4, a5, a6, a7, a8, a9, a10, a11, a12, a13, a14, a15, a16, a17, a18) (nI x) (nI n) := by
  unfold wpX_runNumber
  dsimp only
  refine rc_begin (fun b8 b9 b10 h => nm_e ⟨n + 1, ?_⟩)
  refine rc_rn8 hx n (n + 1) (rc_new rs.length) [] true _ (by omega) hn rfl hJ (rc_new_len _).symm rc_new_mem (fun j m hj => ?_) (by decide) rfl rfl (rc_A_nil _) (fun c g e z c8 c9 c10 c11 c12 c13 => ?_)
  · have hl : j < rs.length := by
      have := (List.getElem?_eq_some_iff.mp hj).1
      rw [rc_new_len] at this
      exact this
    rw [rc_new_at hj]
    exact h j (by have := hJ.2.1; omega)
  · exact H c g e z c8 c9 c10 c11 c12 c13
theorem rc_rw11 {post : St2 → Prop} {rs : List rc_R} {W : List Nat} (ls : List Nat) : ∀ (n i : Nat) (ms : List rc_M) (O : List Nat) (w : Bool) {ru sz li co go re wa fo la : Int32} {a1 a2 a3 a4 a5 a6 a7 a8 a9 a10 a11 a12 a13 : Nat → Int32} {a14 : Nat → Int64} {a15 : Nat → Int32} {a16 : Nat → Int64} {a17 a18 : Nat → Int32}, ls.length < n → i + ls.length = W.length → W.drop i = ls → rc_J rs W li sz a1 a2 a3 a4 a5 a6 a7 → rs.length = ms.length → (∀ m, m ∈ ms → rc_Mv m) → (∀ j m, ms[j]? = some m → rc_Mm a8 a9 a10 j m) → O.length ≤ 12 → re = nI O.length → wa = rc_b w → rc_A a13 O →
    (∀ c g z b8 b9 b10 b11 b12 b13, rc_A b13 (O ++ (rc_line rs ms ls true).2.take (12 - O.length)) → post (ru, sz, li, c, g, (nI (O ++ (rc_line rs ms ls true).2.take (12 - O.length)).length), z, fo, la, a1, a2, a3, a4, a5, a6, a7, b8, b9, b10, b11, b12, b13, a14, a15, a16, a17, a18)) →
    wX_runWord_11 post n (nI i) ru sz li co go re wa fo la a1 a2 a3 a4 a5 a6 a7 a8 a9 a10 a11 a12 a13 a14 a15 a16 a17 a18 := by
  induction ls with
  | nil =>
    intro n i ms O w ru sz li co go re wa fo la a1 a2 a3 a4 a5 a6 a7 a8 a9 a10 a11 a12 a13 a14 a15 a16 a17 a18 hn hi hd hJ hms hMv hM hO hre hwa hA H
    cases n with
    | zero => exact absurd hn (by omega)
    | succ n =>
      have hW := hJ.2.2.2.2.2.1
      refine pk_le W.length i (fun z => ?_) (fun z => absurd z (by simp at hi; omega)) hJ.2.2.2.2.1 rfl (by omega) (by simp at hi; omega)
      exact rc_feedO (y := 4) (by omega) hJ hms hMv hM hO hre hwa hA (fun c g w' b8 b9 b10 b11 b12 b13 g1 g2 => H c g _ b8 b9 b10 b11 b12 b13 g2)
  | cons y ys ih =>
    intro n i ms O w ru sz li co go re wa fo la a1 a2 a3 a4 a5 a6 a7 a8 a9 a10 a11 a12 a13 a14 a15 a16 a17 a18 hn hi hd hJ hms hMv hM hO hre hwa hA H
    cases n with
    | zero => exact absurd hn (by omega)
    | succ n =>
      rw [List.length_cons] at hn hi
      have hW := hJ.2.2.2.2.2.1
      have hlt : i < W.length := by omega
      rw [List.drop_eq_getElem_cons hlt] at hd
      obtain ⟨hy0, hys⟩ := List.cons.inj hd
      obtain ⟨hy, e⟩ := hJ.2.2.2.2.2.2 i y (by rw [List.getElem?_eq_getElem hlt, hy0])
      refine pk_le W.length i (fun z => absurd z (by omega)) (fun z => ⟨pk_in i 12 (by omega), ?_⟩) hJ.2.2.2.2.1
      rw [nI_clamp (show i < 2 ^ 31 by omega), e]
      refine rc_feedO (by omega) hJ hms hMv hM hO hre hwa hA (fun c g w' b8 b9 b10 b11 b12 b13 g1 g2 => nm_r (nI_1 i) ?_)
      have ei : rc_in y = [y] := if_neg (by omega)
      have ed : decide (y = 4) = false := decide_eq_false (by omega)
      rw [ei, ed] at g1 g2 ⊢
      have hv := rc_line_v rs ms [y] false hms hJ.2.2.1 hMv (by intro z hz; rw [List.mem_singleton.mp hz]; exact hy)
      refine ih n (i + 1) _ _ w' (by omega) (by omega) hys hJ (rc_line_len rs ms _ false hms).symm hv.1 g1 ?_ rfl rfl g2 (fun c g z c8 c9 c10 c11 c12 c13 q => ?_)
      · rw [List.length_append, List.length_take]
        omega
      · have e1 : y :: ys = [y] ++ ys := rfl
        have H' := H c g z c8 c9 c10 c11 c12 c13
        rw [e1, rc_line_app rs ms _ _ true hms] at H'
        dsimp only at H'
        rw [rc_take_app] at H'
        exact H' q
/-! the rules and the word of an object -/
def rc_K (rl : List rc_R) (W : List Nat) (ru sz : Int32) (a1 a2 a3 a4 a5 a6 : Nat → Int32) : Prop := ru = nI rl.length ∧ rl.length ≤ 5 ∧ (∀ r, r ∈ rl → rc_Rv r) ∧ (∀ t r, rl[t]? = some r → a1 t = nI r.1 ∧ a2 t = nI r.2.1 ∧ a3 t = nI r.2.2.1 ∧ a4 t = nI r.2.2.2.1 ∧ a5 t = nI r.2.2.2.2) ∧ sz = nI W.length ∧ W.length ≤ 12 ∧ rc_A a6 W
/-- the rules at work: those at p 0, p 1 .. -/
theorem rc_K_J {rl rs : List rc_R} {W : List Nat} {ru sz li : Int32} {a1 a2 a3 a4 a5 a6 a7 : Nat → Int32} (hK : rc_K rl W ru sz a1 a2 a3 a4 a5 a6) (hli : li = nI rs.length) (h5 : rs.length ≤ 5) (h : ∀ j r, rs[j]? = some r → ∃ t, rl[t]? = some r ∧ a7 j = nI t) : rc_J rs W li sz a1 a2 a3 a4 a5 a6 a7 := by
  obtain ⟨k1, k2, k3, k4, k5, k6, k7⟩ := hK
  refine ⟨hli, h5, fun r hr => ?_, fun j r hj => ?_, k5, k6, k7⟩
  · obtain ⟨i, hi, e⟩ := List.mem_iff_getElem.mp hr
    obtain ⟨t, ht, _⟩ := h i r (by rw [List.getElem?_eq_getElem hi, e])
    obtain ⟨hi', e'⟩ := List.getElem?_eq_some_iff.mp ht
    rw [← e']
    exact k3 _ (List.getElem_mem hi')
  · obtain ⟨t, ht, e⟩ := h j r hj
    have hi := (List.getElem?_eq_some_iff.mp ht).1
    exact ⟨t, by omega, e, k4 t r ht⟩
theorem rc_runWord {post : St2 → Prop} {ru sz li co go re wa fo la : Int32} {a1 a2 a3 a4 a5 a6 a7 a8 a9 a10 a11 a12 a13 : Nat → Int32} {a14 : Nat → Int64} {a15 : Nat → Int32} {a16 : Nat → Int64} {a17 a18 : Nat → Int32} {rl : List rc_R} {W : List Nat} {k : Nat} (hK : rc_K rl W ru sz a1 a2 a3 a4 a5 a6) (hk : k ≤ rl.length)
    (H : ∀ c g z b7 b8 b9 b10 b11 b12 b13, rc_A b13 (rc_F (rl.take k) W) → post (ru, sz, (nI k), c, g, (nI (rc_F (rl.take k) W).length), z, fo, la, a1, a2, a3, a4, a5, a6, b7, b8, b9, b10, b11, b12, b13, a14, a15, a16, a17, a18)) : wpX_runWord post (ru, sz, li, co, go, re, wa, fo, la, a1, a2, a3, a4, a5, a6, a7, a8, a9, a10, a11, a12, a13, a14, a15, a16, a17, a18) (nI k) := by
  have hk5 : k ≤ 5 := Nat.le_trans hk hK.2.1
  have hlen : (rl.take k).length = k := by rw [List.length_take]; omega
  unfold wpX_runWord
  dsimp only
  refine rc_useFirst rfl hk5 (fun b7 h7 => rc_begin (fun b8 b9 b10 h => ⟨W.length + 1, ?_⟩))
  have hJ : rc_J (rl.take k) W (nI k) sz a1 a2 a3 a4 a5 a6 b7 := by
    refine rc_K_J hK (by rw [hlen]) (by omega) (fun j r hj => ⟨j, ?_, ?_⟩)
    · rw [List.getElem?_take] at hj
      split at hj
      · exact hj
      · exact absurd hj (by simp)
    · have := (List.getElem?_eq_some_iff.mp hj).1
      exact h7 j (by omega)
  refine rc_rw11 W (W.length + 1) 0 (rc_new (rl.take k).length) [] true (by omega) (by omega) rfl hJ (rc_new_len _).symm rc_new_mem (fun j m hj => ?_) (by decide) rfl rfl (rc_A_nil _) (fun c g z c8 c9 c10 c11 c12 c13 q => ?_)
  · have hl : j < (rl.take k).length := by
      have := (List.getElem?_eq_some_iff.mp hj).1
      rw [rc_new_len] at this
      exact this
    rw [rc_new_at hj]
    exact h j (by omega)
  · exact H c g z b7 c8 c9 c10 c11 c12 c13 q
theorem rc_F_len (rs : List rc_R) (u : List Nat) : (rc_F rs u).length ≤ 12 := by
  unfold rc_F
  rw [List.length_take]
  omega
theorem rc_after {post : Int32 → St2 → Prop} {ru sz li co go re wa fo la : Int32} {a1 a2 a3 a4 a5 a6 a7 a8 a9 a10 a11 a12 a13 : Nat → Int32} {a14 : Nat → Int64} {a15 : Nat → Int32} {a16 : Nat → Int64} {a17 a18 : Nat → Int32} {rl : List rc_R} {W : List Nat} {k : Nat} (hK : rc_K rl W ru sz a1 a2 a3 a4 a5 a6) (hk : k ≤ rl.length)
    (H : ∀ l c g e z b7 b8 b9 b10 b11 b12 b13, post (nI (rc_code (rc_F (rl.take k) W))) (ru, sz, l, c, g, e, z, fo, la, a1, a2, a3, a4, a5, a6, b7, b8, b9, b10, b11, b12, b13, a14, a15, a16, a17, a18)) : wpX_after post (ru, sz, li, co, go, re, wa, fo, la, a1, a2, a3, a4, a5, a6, a7, a8, a9, a10, a11, a12, a13, a14, a15, a16, a17, a18) (nI k) := by
  have h5 := hK.2.1
  unfold wpX_after
  dsimp only
  refine br_f (nI_pos (by omega)) (pk_le k rl.length (fun _ => ?_) (fun z => absurd z (by omega)) rfl hK.1)
  exact rc_runWord hK hk (fun c g z b7 b8 b9 b10 b11 b12 b13 q => rc_codeW (rc_F_len _ _) rfl q (H _ c g _ z b7 b8 b9 b10 b11 b12 b13))
end
section
/-! all words -/
theorem rc_shl : ∀ n, n < 6 → (1 : Int32) <<< ((2 * nI n) &&& 31) = nI (4 ^ n) := by decide +kernel
theorem rc_p5 : ∀ n, n < 6 → 4 ^ n ≤ 1024 := by decide
theorem rc_or (a b : Nat) (ha : a < 2 ^ 32) (hb : b < 2 ^ 32) : nI a ||| nI b = nI (a ||| b) := by
  have h : ∀ n, n < 2 ^ 32 → (nI n).toBitVec.toNat = n := fun n hn => pk_tn hn
  have hab : a ||| b < 2 ^ 32 := Nat.or_lt_two_pow ha hb
  apply Int32.toBitVec_inj.mp
  apply BitVec.eq_of_toNat_eq
  rw [Int32.toBitVec_or, BitVec.toNat_or, h a ha, h b hb, h _ hab]
theorem rc_orw {n w : Nat} (hn : n < 6) (hw : w < 4 ^ n) : nI (4 ^ n) ||| nI w = nI (4 ^ n + w) := by
  have h4 := rc_p5 n hn
  rw [rc_or _ _ (by omega) (by omega)]
  have e : 4 ^ n = 2 ^ (2 * n) := by rw [Nat.pow_mul]
  have k := Nat.two_pow_add_eq_or_of_lt (i := 2 * n) (b := w) (by rw [← e]; exact hw) 1
  rw [Nat.mul_one, ← e] at k
  rw [k]
theorem rc_dig_l (n w : Nat) : ∀ y, y ∈ rc_dig n w → y < 4 := by
  induction n with
  | zero => intro y hy; exact absurd hy (by simp [rc_dig])
  | succ n ih =>
    intro y hy
    rcases List.mem_cons.mp hy with z | z
    · rw [z]; exact Nat.mod_lt _ (by omega)
    · exact ih y z
theorem rc_F_l {rs : List rc_R} {u : List Nat} (hr : ∀ r, r ∈ rs → rc_Rv r) (hu : ∀ y, y ∈ u → y < 4) : ∀ y, y ∈ rc_F rs u → y < 4 := by
  intro y hy
  exact (rc_line_v rs (rc_new rs.length) u true (rc_new_len _).symm hr rc_new_mem hu).2 y (List.mem_of_mem_take hy)
theorem rc_F_lt {rs : List rc_R} {u : List Nat} (hr : ∀ r, r ∈ rs → rc_Rv r) (hu : ∀ y, y ∈ u → y < 4) : rc_code (rc_F rs u) < 2 ^ 26 := by
  have h := rc_code_lt _ (rc_F_l hr hu)
  have h2 : 4 ^ (rc_F rs u).length ≤ 4 ^ 12 := Nat.pow_le_pow_right (by omega) (rc_F_len rs u)
  have h3 : (4 : Nat) ^ 12 = 2 ^ 24 := by decide
  omega
theorem rc_bad {post : Int32 → Prop} {ru sz li co go re wa fo la : Int32} {a1 a2 a3 a4 a5 a6 a7 a8 a9 a10 a11 a12 a13 : Nat → Int32} {a14 : Nat → Int64} {a15 : Nat → Int32} {a16 : Nat → Int64} {a17 a18 : Nat → Int32} {n : Nat} (hn : n ≤ 5) (H : post 0) : wpX_badNumber post (ru, sz, li, co, go, re, wa, fo, la, a1, a2, a3, a4, a5, a6, a7, a8, a9, a10, a11, a12, a13, a14, a15, a16, a17, a18) (nI n) := by
  unfold wpX_badNumber
  exact br_f (nI_pos (by omega)) (pk_le n 5 (fun _ => H) (fun z => absurd z (by omega)))
theorem rc_K_all {rl : List rc_R} {W : List Nat} {ru sz : Int32} {a1 a2 a3 a4 a5 a6 b7 : Nat → Int32} (hK : rc_K rl W ru sz a1 a2 a3 a4 a5 a6) (h7 : ∀ s, s < rl.length → b7 s = nI s) : rc_J rl W (nI rl.length) sz a1 a2 a3 a4 a5 a6 b7 :=
  rc_K_J hK rfl hK.2.1 (fun j r hj => ⟨j, hj, h7 j (List.getElem?_eq_some_iff.mp hj).1⟩)
/-! still -/
def rc_st (rs : List rc_R) (n : Nat) (w : Nat) : Bool := decide (rc_F rs (rc_dig n w) = rc_dig n w)
theorem rc_still22 {post : Int32 → St2 → Prop} {rs : List rc_R} {W : List Nat} {n : Nat} (hn : n ≤ 5) (d : Nat) : ∀ (f w : Nat) {ru sz li co go re wa fo la : Int32} {a1 a2 a3 a4 a5 a6 a7 a8 a9 a10 a11 a12 a13 : Nat → Int32} {a14 : Nat → Int64} {a15 : Nat → Int32} {a16 : Nat → Int64} {a17 a18 : Nat → Int32}, d < f → w + d = 4 ^ n → rc_J rs W li sz a1 a2 a3 a4 a5 a6 a7 →
    (∀ c g e z b8 b9 b10 b11 b12 b13, post (nI ((List.range (4 ^ n)).countP (rc_st rs n))) (ru, sz, li, c, g, e, z, fo, la, a1, a2, a3, a4, a5, a6, a7, b8, b9, b10, b11, b12, b13, a14, a15, a16, a17, a18)) →
    wX_still_22 post (nI n) f (nI ((List.range w).countP (rc_st rs n))) (nI w) ru sz li co go re wa fo la a1 a2 a3 a4 a5 a6 a7 a8 a9 a10 a11 a12 a13 a14 a15 a16 a17 a18 := by
  have h4 := rc_p5 n (by omega)
  induction d with
  | zero =>
    intro f w ru sz li co go re wa fo la a1 a2 a3 a4 a5 a6 a7 a8 a9 a10 a11 a12 a13 a14 a15 a16 a17 a18 hf hw hJ H
    cases f with
    | zero => exact absurd hf (by omega)
    | succ f =>
      have hw' : w = 4 ^ n := by omega
      rw [hw']
      exact pk_le (4 ^ n) (4 ^ n) (fun _ => H _ _ _ _ _ _ _ _ _ _) (fun z => absurd z (by omega)) (rc_shl n (by omega))
  | succ d ih =>
    intro f w ru sz li co go re wa fo la a1 a2 a3 a4 a5 a6 a7 a8 a9 a10 a11 a12 a13 a14 a15 a16 a17 a18 hf hw hJ H
    cases f with
    | zero => exact absurd hf (by omega)
    | succ f =>
      refine pk_le (4 ^ n) w (fun z => absurd z (by omega)) (fun _ => ?_) (rc_shl n (by omega))
      refine rc_runNumber (by omega) hn hJ (fun c g e z b8 b9 b10 b11 b12 b13 => ?_)
      have hl := rc_F_lt hJ.2.2.1 (rc_dig_l n w)
      have hc := rc_code_dig n w (by omega)
      have hcount : (List.range (w + 1)).countP (rc_st rs n) = (List.range w).countP (rc_st rs n) + (if rc_st rs n w = true then 1 else 0) := by
        rw [List.range_succ, List.countP_append, List.countP_singleton]
      refine pk_eq (rc_code (rc_F rs (rc_dig n w))) (4 ^ n + w) (fun q => nm_r (nI_1 _) (nm_r (nI_1 w) ?_)) (fun q => nm_r (nI_1 w) ?_) rfl (by rw [rc_shl n (by omega), rc_orw (by omega) (by omega)])
      · have k : rc_st rs n w = true := by
          refine decide_eq_true (rc_code_inj 12 _ _ (rc_F_len _ _) (rc_F_l hJ.2.2.1 (rc_dig_l n w)) (rc_dig_l n w) (by rw [hc]; exact q))
        rw [if_pos k] at hcount
        rw [← hcount]
        exact ih f (w + 1) (by omega) (by omega) hJ (fun c g e z b8 b9 b10 b11 b12 b13 => H c g e z b8 b9 b10 b11 b12 b13)
      · have k : ¬ rc_st rs n w = true := by
          intro z
          apply q
          rw [of_decide_eq_true z, hc]
        have h2 : (List.range (w + 1)).countP (rc_st rs n) = (List.range w).countP (rc_st rs n) := by rw [hcount, if_neg k]; rfl
        rw [← h2]
        exact ih f (w + 1) (by omega) (by omega) hJ (fun c g e z b8 b9 b10 b11 b12 b13 => H c g e z b8 b9 b10 b11 b12 b13)
theorem rc_still {post : Int32 → St2 → Prop} {ru sz li co go re wa fo la : Int32} {a1 a2 a3 a4 a5 a6 a7 a8 a9 a10 a11 a12 a13 : Nat → Int32} {a14 : Nat → Int64} {a15 : Nat → Int32} {a16 : Nat → Int64} {a17 a18 : Nat → Int32} {rl : List rc_R} {W : List Nat} {n : Nat} (hn : n ≤ 5) (hK : rc_K rl W ru sz a1 a2 a3 a4 a5 a6)
    (H : ∀ l c g e z b7 b8 b9 b10 b11 b12 b13, post (nI ((rc_words n).countP (fun u => decide (rc_F rl u = u)))) (ru, sz, l, c, g, e, z, fo, la, a1, a2, a3, a4, a5, a6, b7, b8, b9, b10, b11, b12, b13, a14, a15, a16, a17, a18)) : wpX_still post (ru, sz, li, co, go, re, wa, fo, la, a1, a2, a3, a4, a5, a6, a7, a8, a9, a10, a11, a12, a13, a14, a15, a16, a17, a18) (nI n) := by
  have e : (rc_words n).countP (fun u => decide (rc_F rl u = u)) = (List.range (4 ^ n)).countP (rc_st rl n) := by
    rw [rc_words_dig, List.countP_map]
    rfl
  rw [e] at H
  unfold wpX_still
  dsimp only
  refine rc_bad hn (br_t rfl ?_)
  refine rc_useFirst hK.1 hK.2.1 (fun b7 h7 => ⟨4 ^ n + 1, ?_⟩)
  exact rc_still22 hn (4 ^ n) (4 ^ n + 1) 0 (by omega) (by omega) (rc_K_all hK h7) (fun c g e z b8 b9 b10 b11 b12 b13 => H _ c g e z b7 b8 b9 b10 b11 b12 b13)
/-! keepAll, sameAll, commute, idle -/
theorem rc_2f : @wpX_meet_2 = @wpX_meet := rfl
theorem rc_2g (post : St2 → Prop) (ru sz li co go re wa fo la : Int32) (n : Nat) : wX_begin_2_2 post ru sz li co go re wa fo la n = wX_begin_2 post ru sz li co go re wa fo la n := by
  induction n with
  | zero => rfl
  | succ n ih =>
    unfold wX_begin_2_2 wX_begin_2
    rw [ih]
theorem rc_2gw (post : St2 → Prop) (u : St2) : wpX_begin_2 post u = wpX_begin post u := by
  obtain ⟨ru, sz, li, co, go, re, wa, fo, la, a1, a2, a3, a4, a5, a6, a7, a8, a9, a10, a11, a12, a13, a14, a15, a16, a17, a18⟩ := u
  unfold wpX_begin_2 wpX_begin
  simp only [rc_2g]
theorem rc_2h (post : St2 → Prop) (ru sz li co go re wa fo la : Int32) (n : Nat) : wX_exchangeWays_2_2 post ru sz li co go re wa fo la n = wX_exchangeWays_2 post ru sz li co go re wa fo la n := by
  induction n with
  | zero => rfl
  | succ n ih =>
    unfold wX_exchangeWays_2_2 wX_exchangeWays_2
    rw [ih]
theorem rc_2hw : @wpX_exchangeWays_2 = @wpX_exchangeWays := by
  funext post u
  obtain ⟨ru, sz, li, co, go, re, wa, fo, la, a1, a2, a3, a4, a5, a6, a7, a8, a9, a10, a11, a12, a13, a14, a15, a16, a17, a18⟩ := u
  unfold wpX_exchangeWays_2 wpX_exchangeWays
  simp only [rc_2h]
theorem rc_2i : @wX_passRule_2_42 = @wX_passRule_42 := by
  unfold wX_passRule_2_42 wX_passRule_42
  rw [rc_2hw]
theorem rc_2j (post : St2 → Prop) (x1 x2 : Int32) (n : Nat) : wX_passRule_2_7 post x1 x2 n = wX_passRule_7 post x1 x2 n := by
  induction n with
  | zero => rfl
  | succ n ih =>
    unfold wX_passRule_2_7 wX_passRule_7
    rw [ih, rc_2i, rc_2f]
theorem rc_2jw : @wpX_passRule_2 = @wpX_passRule := by
  funext post u p0 p1
  obtain ⟨ru, sz, li, co, go, re, wa, fo, la, a1, a2, a3, a4, a5, a6, a7, a8, a9, a10, a11, a12, a13, a14, a15, a16, a17, a18⟩ := u
  unfold wpX_passRule_2 wpX_passRule
  simp only [rc_2j]
theorem rc_2k (post : St2 → Prop) (ru sz li co go fo la : Int32) (n : Nat) : wX_feed_2_56 post ru sz li co go fo la n = wX_feed_56 post ru sz li co go fo la n := by
  induction n with
  | zero => rfl
  | succ n ih =>
    unfold wX_feed_2_56 wX_feed_56
    rw [ih]
    rfl
theorem rc_2l : @wX_feed_2_45 = @wX_feed_45 := by
  unfold wX_feed_2_45 wX_feed_45
  rw [rc_2jw]
theorem rc_2m (post : St2 → Prop) (x1 : Int32) (n : Nat) : wX_feed_2_25 post x1 n = wX_feed_25 post x1 n := by
  induction n with
  | zero => rfl
  | succ n ih =>
    unfold wX_feed_2_25 wX_feed_25
    rw [ih, rc_2l]
    simp only [rc_2k]
theorem rc_2mw : @wpX_feed_2 = @wpX_feed := by
  funext post u p0
  obtain ⟨ru, sz, li, co, go, re, wa, fo, la, a1, a2, a3, a4, a5, a6, a7, a8, a9, a10, a11, a12, a13, a14, a15, a16, a17, a18⟩ := u
  unfold wpX_feed_2 wpX_feed
  simp only [rc_2m]
theorem rc_2n (post : Int32 → St2 → Prop) (x1 : Int32) (n : Nat) : wX_runNumber_2_8 post x1 n = wX_runNumber_8 post x1 n := by
  induction n with
  | zero => rfl
  | succ n ih =>
    unfold wX_runNumber_2_8 wX_runNumber_8
    rw [ih, rc_2mw]
theorem rc_rn2 (post : Int32 → St2 → Prop) (u : St2) (p0 p1 : Int32) : wpX_runNumber_2 post u p0 p1 = wpX_runNumber post u p0 p1 := by
  obtain ⟨ru, sz, li, co, go, re, wa, fo, la, a1, a2, a3, a4, a5, a6, a7, a8, a9, a10, a11, a12, a13, a14, a15, a16, a17, a18⟩ := u
  unfold wpX_runNumber_2 wpX_runNumber
  dsimp only
  rw [rc_2gw]
  simp only [rc_2n]
theorem rc_ka10 {post : St2 → Prop} {rs : List rc_R} {W : List Nat} {n : Nat} (hn : n ≤ 5) (d : Nat) : ∀ (f w : Nat) {ru sz li co go re wa fo la : Int32} {a1 a2 a3 a4 a5 a6 a7 a8 a9 a10 a11 a12 a13 : Nat → Int32} {a14 : Nat → Int64} {a15 : Nat → Int32} {a16 : Nat → Int64} {a17 a18 : Nat → Int32}, d < f → w + d = 4 ^ n → rc_J rs W li sz a1 a2 a3 a4 a5 a6 a7 → (∀ j, j < w → a18 j = nI (rc_code (rc_F rs (rc_dig n j)))) →
    (∀ c g e z b8 b9 b10 b11 b12 b13 b18, (∀ j, j < 4 ^ n → b18 j = nI (rc_code (rc_F rs (rc_dig n j)))) → post (ru, sz, li, c, g, e, z, fo, la, a1, a2, a3, a4, a5, a6, a7, b8, b9, b10, b11, b12, b13, a14, a15, a16, a17, b18)) →
    wX_keepAll_10 post (nI n) f (nI w) ru sz li co go re wa fo la a1 a2 a3 a4 a5 a6 a7 a8 a9 a10 a11 a12 a13 a14 a15 a16 a17 a18 := by
  have h4 := rc_p5 n (by omega)
  induction d with
  | zero =>
    intro f w ru sz li co go re wa fo la a1 a2 a3 a4 a5 a6 a7 a8 a9 a10 a11 a12 a13 a14 a15 a16 a17 a18 hf hw hJ h18 H
    cases f with
    | zero => exact absurd hf (by omega)
    | succ f =>
      have hw' : w = 4 ^ n := by omega
      subst hw'
      exact pk_le (4 ^ n) (4 ^ n) (fun _ => H _ _ _ _ _ _ _ _ _ _ _ h18) (fun z => absurd z (by omega)) (rc_shl n (by omega))
  | succ d ih =>
    intro f w ru sz li co go re wa fo la a1 a2 a3 a4 a5 a6 a7 a8 a9 a10 a11 a12 a13 a14 a15 a16 a17 a18 hf hw hJ h18 H
    cases f with
    | zero => exact absurd hf (by omega)
    | succ f =>
      refine pk_le (4 ^ n) w (fun z => absurd z (by omega)) (fun _ => ?_) (rc_shl n (by omega))
      rw [rc_rn2]
      refine rc_runNumber (by omega) hn hJ (fun c g e z b8 b9 b10 b11 b12 b13 => ⟨pk_in w 1024 (by omega), fun b18 e18 => nm_r (nI_1 w) ?_⟩)
      refine ih f (w + 1) (by omega) (by omega) hJ (fun j hj => ?_) (fun c g e z b8 b9 b10 b11 b12 b13 => H c g e z b8 b9 b10 b11 b12 b13)
      rw [e18, nI_clamp (show w < 2 ^ 31 by omega)]
      by_cases q : j = w
      · rw [q, pk_us]
      · rw [pk_un q]
        exact h18 j (by omega)
theorem rc_keepAll {post : St2 → Prop} {ru sz li co go re wa fo la : Int32} {a1 a2 a3 a4 a5 a6 a7 a8 a9 a10 a11 a12 a13 : Nat → Int32} {a14 : Nat → Int64} {a15 : Nat → Int32} {a16 : Nat → Int64} {a17 a18 : Nat → Int32} {rl : List rc_R} {W : List Nat} {n : Nat} (hn : n ≤ 5) (hK : rc_K rl W ru sz a1 a2 a3 a4 a5 a6)
    (H : ∀ c g e z b7 b8 b9 b10 b11 b12 b13 b18, (∀ s, s < rl.length → b7 s = nI s) → (∀ j, j < 4 ^ n → b18 j = nI (rc_code (rc_F rl (rc_dig n j)))) → post (ru, sz, (nI rl.length), c, g, e, z, fo, la, a1, a2, a3, a4, a5, a6, b7, b8, b9, b10, b11, b12, b13, a14, a15, a16, a17, b18)) : wpX_keepAll post (ru, sz, li, co, go, re, wa, fo, la, a1, a2, a3, a4, a5, a6, a7, a8, a9, a10, a11, a12, a13, a14, a15, a16, a17, a18) (nI n) := by
  unfold wpX_keepAll
  dsimp only
  refine rc_useFirst hK.1 hK.2.1 (fun b7 h7 => ⟨4 ^ n + 1, ?_⟩)
  exact rc_ka10 hn (4 ^ n) (4 ^ n + 1) 0 (by omega) (by omega) (rc_K_all hK h7) (fun j hj => absurd hj (by omega)) (fun c g e z b8 b9 b10 b11 b12 b13 b18 h => H c g e z b7 b8 b9 b10 b11 b12 b13 b18 h7 h)
theorem rc_sa4 {post : Int32 → St2 → Prop} {rs rl : List rc_R} {W : List Nat} {n : Nat} (hn : n ≤ 5) (hrl : ∀ r, r ∈ rl → rc_Rv r) (d : Nat) : ∀ (f w : Nat) {ru sz li co go re wa fo la : Int32} {a1 a2 a3 a4 a5 a6 a7 a8 a9 a10 a11 a12 a13 : Nat → Int32} {a14 : Nat → Int64} {a15 : Nat → Int32} {a16 : Nat → Int64} {a17 a18 : Nat → Int32}, d < f → w + d = 4 ^ n → rc_J rs W li sz a1 a2 a3 a4 a5 a6 a7 → (∀ j, j < 4 ^ n → a18 j = nI (rc_code (rc_F rl (rc_dig n j)))) → (∀ j, j < w → rc_F rs (rc_dig n j) = rc_F rl (rc_dig n j)) →
    ((∀ j, j < 4 ^ n → rc_F rs (rc_dig n j) = rc_F rl (rc_dig n j)) → ∀ c g e z b8 b9 b10 b11 b12 b13, post 1 (ru, sz, li, c, g, e, z, fo, la, a1, a2, a3, a4, a5, a6, a7, b8, b9, b10, b11, b12, b13, a14, a15, a16, a17, a18)) →
    ((∃ j, j < 4 ^ n ∧ rc_F rs (rc_dig n j) ≠ rc_F rl (rc_dig n j)) → ∀ c g e z b8 b9 b10 b11 b12 b13, post 0 (ru, sz, li, c, g, e, z, fo, la, a1, a2, a3, a4, a5, a6, a7, b8, b9, b10, b11, b12, b13, a14, a15, a16, a17, a18)) →
    wX_sameAll_4 post (nI n) (f + 1) 1 (nI w) ru sz li co go re wa fo la a1 a2 a3 a4 a5 a6 a7 a8 a9 a10 a11 a12 a13 a14 a15 a16 a17 a18 := by
  have h4 := rc_p5 n (by omega)
  induction d with
  | zero =>
    intro f w ru sz li co go re wa fo la a1 a2 a3 a4 a5 a6 a7 a8 a9 a10 a11 a12 a13 a14 a15 a16 a17 a18 hf hw hJ h18 hsame H1 H0
    have hw' : w = 4 ^ n := by omega
    subst hw'
    exact pk_le (4 ^ n) (4 ^ n) (fun _ => ⟨rfl, H1 hsame _ _ _ _ _ _ _ _ _ _⟩) (fun z => absurd z (by omega)) (rc_shl n (by omega))
  | succ d ih =>
    intro f w ru sz li co go re wa fo la a1 a2 a3 a4 a5 a6 a7 a8 a9 a10 a11 a12 a13 a14 a15 a16 a17 a18 hf hw hJ h18 hsame H1 H0
    cases f with
    | zero => exact absurd hf (by omega)
    | succ f =>
      refine pk_le (4 ^ n) w (fun z => absurd z (by omega)) (fun _ => br_f (by decide) ?_) (rc_shl n (by omega))
      refine rc_runNumber (by omega) hn hJ (fun c g e z b8 b9 b10 b11 b12 b13 => ⟨pk_in w 1024 (by omega), ?_⟩)
      rw [nI_clamp (show w < 2 ^ 31 by omega), h18 w (by omega)]
      have l1 := rc_F_lt hJ.2.2.1 (rc_dig_l n w)
      have l2 := rc_F_lt hrl (rc_dig_l n w)
      refine pk_eq (rc_code (rc_F rs (rc_dig n w))) (rc_code (rc_F rl (rc_dig n w))) (fun q => nm_r (nI_1 w) ?_) (fun q => nm_r (nI_1 w) ?_)
      · have k := rc_code_inj 12 _ _ (rc_F_len _ _) (rc_F_l hJ.2.2.1 (rc_dig_l n w)) (rc_F_l hrl (rc_dig_l n w)) q
        refine ih f (w + 1) (by omega) (by omega) hJ h18 (fun j hj => ?_) (fun h => fun c g e z b8 b9 b10 b11 b12 b13 => H1 h c g e z b8 b9 b10 b11 b12 b13) (fun h => fun c g e z b8 b9 b10 b11 b12 b13 => H0 h c g e z b8 b9 b10 b11 b12 b13)
        by_cases t : j = w
        · rw [t]; exact k
        · exact hsame j (by omega)
      · have k : ∃ j, j < 4 ^ n ∧ rc_F rs (rc_dig n j) ≠ rc_F rl (rc_dig n j) := ⟨w, by omega, fun t => q (by rw [t])⟩
        refine pk_le (4 ^ n) (w + 1) (fun _ => ⟨rfl, H0 k _ _ _ _ _ _ _ _ _ _⟩) (fun _ => br_t rfl ⟨rfl, H0 k _ _ _ _ _ _ _ _ _ _⟩) (rc_shl n (by omega))
theorem rc_sameAll {post : Int32 → St2 → Prop} {ru sz li co go re wa fo la : Int32} {a1 a2 a3 a4 a5 a6 a7 a8 a9 a10 a11 a12 a13 : Nat → Int32} {a14 : Nat → Int64} {a15 : Nat → Int32} {a16 : Nat → Int64} {a17 a18 : Nat → Int32} {rs rl : List rc_R} {W : List Nat} {n : Nat} (hn : n ≤ 5) (hrl : ∀ r, r ∈ rl → rc_Rv r) (hJ : rc_J rs W li sz a1 a2 a3 a4 a5 a6 a7) (h18 : ∀ j, j < 4 ^ n → a18 j = nI (rc_code (rc_F rl (rc_dig n j))))
    (H1 : (∀ u, u ∈ rc_words n → rc_F rs u = rc_F rl u) → ∀ c g e z b8 b9 b10 b11 b12 b13, post 1 (ru, sz, li, c, g, e, z, fo, la, a1, a2, a3, a4, a5, a6, a7, b8, b9, b10, b11, b12, b13, a14, a15, a16, a17, a18))
    (H0 : (∃ u, u ∈ rc_words n ∧ rc_F rs u ≠ rc_F rl u) → ∀ c g e z b8 b9 b10 b11 b12 b13, post 0 (ru, sz, li, c, g, e, z, fo, la, a1, a2, a3, a4, a5, a6, a7, b8, b9, b10, b11, b12, b13, a14, a15, a16, a17, a18)) : wpX_sameAll post (ru, sz, li, co, go, re, wa, fo, la, a1, a2, a3, a4, a5, a6, a7, a8, a9, a10, a11, a12, a13, a14, a15, a16, a17, a18) (nI n) := by
  unfold wpX_sameAll
  dsimp only
  refine ⟨4 ^ n + 1 + 1, ?_⟩
  refine rc_sa4 hn hrl (4 ^ n) (4 ^ n + 1) 0 (by omega) (by omega) hJ h18 (fun j hj => absurd hj (by omega)) (fun h => H1 (fun u hu => ?_)) (fun h => H0 ?_)
  · rw [rc_words_dig] at hu
    obtain ⟨w, hw, e⟩ := List.mem_map.mp hu
    rw [← e]
    exact h w (List.mem_range.mp hw)
  · obtain ⟨w, hw, e⟩ := h
    exact ⟨rc_dig n w, by rw [rc_words_dig]; exact List.mem_map.mpr ⟨w, List.mem_range.mpr hw, rfl⟩, e⟩
theorem rc_commute {post : Int32 → St2 → Prop} {ru sz li co go re wa fo la : Int32} {a1 a2 a3 a4 a5 a6 a7 a8 a9 a10 a11 a12 a13 : Nat → Int32} {a14 : Nat → Int64} {a15 : Nat → Int32} {a16 : Nat → Int64} {a17 a18 : Nat → Int32} {x y : rc_R} {W : List Nat} {n : Nat} (hn : n ≤ 5) (hK : rc_K [x, y] W ru sz a1 a2 a3 a4 a5 a6)
    (H1 : (∀ u, u ∈ rc_words n → rc_F [y, x] u = rc_F [x, y] u) → ∀ l c g e z b7 b8 b9 b10 b11 b12 b13 b18, post 1 (ru, sz, l, c, g, e, z, fo, la, a1, a2, a3, a4, a5, a6, b7, b8, b9, b10, b11, b12, b13, a14, a15, a16, a17, b18))
    (H0 : (∃ u, u ∈ rc_words n ∧ rc_F [y, x] u ≠ rc_F [x, y] u) → ∀ l c g e z b7 b8 b9 b10 b11 b12 b13 b18, post 0 (ru, sz, l, c, g, e, z, fo, la, a1, a2, a3, a4, a5, a6, b7, b8, b9, b10, b11, b12, b13, a14, a15, a16, a17, b18)) : wpX_commute post (ru, sz, li, co, go, re, wa, fo, la, a1, a2, a3, a4, a5, a6, a7, a8, a9, a10, a11, a12, a13, a14, a15, a16, a17, a18) 0 (nI n) := by
  unfold wpX_commute
  dsimp only
  refine br_f (by decide) (pk_lt 0 1 (fun _ => ?_) (fun z => absurd z (by omega)) rfl (by rw [hK.1]; exact nI_pred 1))
  refine rc_bad hn (br_t rfl (rc_keepAll hn hK (fun c g e z b7 b8 b9 b10 b11 b12 b13 b18 h7 h18 => ⟨pk_in 0 5 (by omega), fun c7 e7 => ⟨pk_in 1 5 (by omega), fun d7 f7 => ?_⟩⟩)))
  have hJ : rc_J [y, x] W (nI 2) sz a1 a2 a3 a4 a5 a6 d7 := by
    refine rc_K_J hK rfl (show 2 ≤ 5 by omega) (fun j r hj => ?_)
    match j with
    | 0 => exact ⟨1, hj, by rw [f7, e7]; rfl⟩
    | 1 => exact ⟨0, hj, by rw [f7, e7]; rfl⟩
    | j + 2 => exact absurd hj (by simp)
  refine rc_sameAll hn hK.2.2.1 hJ h18 (fun h c g e z b8 b9 b10 b11 b12 b13 => ?_) (fun h c g e z b8 b9 b10 b11 b12 b13 => ?_)
  · exact br_f (by decide) (H1 h _ c g e z d7 b8 b9 b10 b11 b12 b13 b18)
  · exact br_t rfl (H0 h _ c g e z d7 b8 b9 b10 b11 b12 b13 b18)
theorem rc_idle42 {post : Int32 → St2 → Prop} {rl : List rc_R} {W : List Nat} {n k : Nat} (hn : n ≤ 5) (hk : k < rl.length) (d : Nat) : ∀ (f s : Nat) {ru sz li co go re wa fo la : Int32} {a1 a2 a3 a4 a5 a6 a7 a8 a9 a10 a11 a12 a13 : Nat → Int32} {a14 : Nat → Int64} {a15 : Nat → Int32} {a16 : Nat → Int64} {a17 a18 : Nat → Int32}, d < f → s + d = rl.length - 1 → k ≤ s → li = nI (rl.length - 1) → rc_K rl W ru sz a1 a2 a3 a4 a5 a6 → (∀ j, j < k → a7 j = nI j) → (∀ j, k ≤ j → j < s → a7 j = nI (j + 1)) → (∀ j, s ≤ j → j < rl.length → a7 j = nI j) → (∀ j, j < 4 ^ n → a18 j = nI (rc_code (rc_F rl (rc_dig n j)))) →
    ((∀ u, u ∈ rc_words n → rc_F (rl.eraseIdx k) u = rc_F rl u) → ∀ c g e z b7 b8 b9 b10 b11 b12 b13, post 1 (ru, sz, li, c, g, e, z, fo, la, a1, a2, a3, a4, a5, a6, b7, b8, b9, b10, b11, b12, b13, a14, a15, a16, a17, a18)) →
    ((∃ u, u ∈ rc_words n ∧ rc_F (rl.eraseIdx k) u ≠ rc_F rl u) → ∀ c g e z b7 b8 b9 b10 b11 b12 b13, post 0 (ru, sz, li, c, g, e, z, fo, la, a1, a2, a3, a4, a5, a6, b7, b8, b9, b10, b11, b12, b13, a14, a15, a16, a17, a18)) →
    wX_idle_42 post (nI n) ru sz li co go re wa fo la f (nI s) a1 a2 a3 a4 a5 a6 a7 a8 a9 a10 a11 a12 a13 a14 a15 a16 a17 a18 := by
  induction d with
  | zero =>
    intro f s ru sz li co go re wa fo la a1 a2 a3 a4 a5 a6 a7 a8 a9 a10 a11 a12 a13 a14 a15 a16 a17 a18 hf hs hks hli hK q1 q2 q3 h18 H1 H0
    cases f with
    | zero => exact absurd hf (by omega)
    | succ f =>
      have h5 := hK.2.1
      refine pk_le (rl.length - 1) s (fun _ => ?_) (fun z => absurd z (by omega)) hli
      have hlen : (rl.eraseIdx k).length = rl.length - 1 := List.length_eraseIdx_of_lt hk
      have hJ : rc_J (rl.eraseIdx k) W li sz a1 a2 a3 a4 a5 a6 a7 := by
        refine rc_K_J hK (by rw [hlen]; exact hli) (by omega) (fun j r hj => ?_)
        have hjl := (List.getElem?_eq_some_iff.mp hj).1
        rw [List.getElem?_eraseIdx] at hj
        split at hj
        · next c => exact ⟨j, hj, q1 j c⟩
        · next c => exact ⟨j + 1, hj, q2 j (by omega) (by omega)⟩
      refine rc_sameAll hn hK.2.2.1 hJ h18 (fun h c g e z b8 b9 b10 b11 b12 b13 => ?_) (fun h c g e z b8 b9 b10 b11 b12 b13 => ?_)
      · exact br_f (by decide) (H1 h c g e z a7 b8 b9 b10 b11 b12 b13)
      · exact br_t rfl (H0 h c g e z a7 b8 b9 b10 b11 b12 b13)
  | succ d ih =>
    intro f s ru sz li co go re wa fo la a1 a2 a3 a4 a5 a6 a7 a8 a9 a10 a11 a12 a13 a14 a15 a16 a17 a18 hf hs hks hli hK q1 q2 q3 h18 H1 H0
    cases f with
    | zero => exact absurd hf (by omega)
    | succ f =>
      have h5 := hK.2.1
      refine pk_le (rl.length - 1) s (fun z => absurd z (by omega)) (fun _ => ⟨pk_in s 5 (by omega), fun b7 e7 => nm_r (nI_1 s) ?_⟩) hli
      have e7' : b7 = upd a7 s (nI (s + 1)) := by rw [e7, nI_clamp (show s < 2 ^ 31 by omega), nI_1, rc_b8 _ (by omega)]
      refine ih f (s + 1) (by omega) (by omega) (by omega) hli hK (fun j hj => ?_) (fun j hj1 hj2 => ?_) (fun j hj1 hj2 => ?_) h18 (fun h c g e z b7 b8 b9 b10 b11 b12 b13 => H1 h c g e z b7 b8 b9 b10 b11 b12 b13) (fun h c g e z b7 b8 b9 b10 b11 b12 b13 => H0 h c g e z b7 b8 b9 b10 b11 b12 b13)
      · rw [e7', pk_un (by omega)]; exact q1 j hj
      · rw [e7']
        by_cases c : j = s
        · rw [c, pk_us]
        · rw [pk_un c]; exact q2 j hj1 (by omega)
      · rw [e7', pk_un (by omega)]; exact q3 j (by omega) hj2
theorem rc_idle {post : Int32 → St2 → Prop} {ru sz li co go re wa fo la : Int32} {a1 a2 a3 a4 a5 a6 a7 a8 a9 a10 a11 a12 a13 : Nat → Int32} {a14 : Nat → Int64} {a15 : Nat → Int32} {a16 : Nat → Int64} {a17 a18 : Nat → Int32} {rl : List rc_R} {W : List Nat} {n k : Nat} (hn : n ≤ 5) (hk : k < rl.length) (hK : rc_K rl W ru sz a1 a2 a3 a4 a5 a6)
    (H1 : (∀ u, u ∈ rc_words n → rc_F (rl.eraseIdx k) u = rc_F rl u) → ∀ l c g e z b7 b8 b9 b10 b11 b12 b13 b18, post 1 (ru, sz, l, c, g, e, z, fo, la, a1, a2, a3, a4, a5, a6, b7, b8, b9, b10, b11, b12, b13, a14, a15, a16, a17, b18))
    (H0 : (∃ u, u ∈ rc_words n ∧ rc_F (rl.eraseIdx k) u ≠ rc_F rl u) → ∀ l c g e z b7 b8 b9 b10 b11 b12 b13 b18, post 0 (ru, sz, l, c, g, e, z, fo, la, a1, a2, a3, a4, a5, a6, b7, b8, b9, b10, b11, b12, b13, a14, a15, a16, a17, b18)) : wpX_idle post (ru, sz, li, co, go, re, wa, fo, la, a1, a2, a3, a4, a5, a6, a7, a8, a9, a10, a11, a12, a13, a14, a15, a16, a17, a18) (nI k) (nI n) := by
  have h5 := hK.2.1
  unfold wpX_idle
  dsimp only
  refine br_f (nI_pos (by omega)) (pk_lt k rl.length (fun _ => ?_) (fun z => absurd z (by omega)) rfl hK.1)
  refine rc_bad hn (br_t rfl (rc_keepAll hn hK (fun c g e z b7 b8 b9 b10 b11 b12 b13 b18 h7 h18 => nm_r (e' := nI (rl.length - 1)) ?_ ⟨rl.length, ?_⟩)))
  · rw [hK.1, show rl.length = rl.length - 1 + 1 by omega, nI_pred]; rfl
  · exact rc_idle42 hn hk (rl.length - 1 - k) rl.length k (by omega) (by omega) (Nat.le_refl _) rfl hK (fun j hj => h7 j (by omega)) (fun j hj1 hj2 => absurd hj2 (by omega)) (fun j hj1 hj2 => h7 j hj2) h18 (fun h c g e z b7 b8 b9 b10 b11 b12 b13 => H1 h _ c g e z b7 b8 b9 b10 b11 b12 b13 b18) (fun h c g e z b7 b8 b9 b10 b11 b12 b13 => H0 h _ c g e z b7 b8 b9 b10 b11 b12 b13 b18)
end
section
/-! codes kept in order: k of them, f 0 < f 1 < .. -/
def rc_up (f : Nat → Nat) (k : Nat) : Prop := ∀ i j, i < j → j < k → f i < f j
theorem rc_kc65 {post : Int32 → St2 → Prop} {f : Nat → Nat} {c k p : Nat} (hk : k < 1024) (hp : p ≤ k) (d : Nat) : ∀ (n i : Nat) {ru sz li co go re wa fo la : Int32} {a1 a2 a3 a4 a5 a6 a7 a8 a9 a10 a11 a12 a13 : Nat → Int32} {a14 : Nat → Int64} {a15 : Nat → Int32} {a16 : Nat → Int64} {a17 a18 : Nat → Int32}, d < n → i = p + d → i ≤ k → (∀ j, j ≤ i → j < k → a18 j = nI (f j)) → (∀ j, i < j → j ≤ k → a18 j = nI (f (j - 1))) →
    (∀ b18, (∀ j, j < p → b18 j = nI (f j)) → b18 p = nI c → (∀ j, p < j → j ≤ k → b18 j = nI (f (j - 1))) → post (nI (k + 1)) (ru, sz, li, co, go, re, wa, fo, la, a1, a2, a3, a4, a5, a6, a7, a8, a9, a10, a11, a12, a13, a14, a15, a16, a17, b18)) →
    wX_keepCode_65 post (nI c) (nI k) (nI p) ru sz li co go re wa fo la n (nI i) a1 a2 a3 a4 a5 a6 a7 a8 a9 a10 a11 a12 a13 a14 a15 a16 a17 a18 := by
  induction d with
  | zero =>
    intro n i ru sz li co go re wa fo la a1 a2 a3 a4 a5 a6 a7 a8 a9 a10 a11 a12 a13 a14 a15 a16 a17 a18 hn hi hik h1 h2 H
    cases n with
    | zero => exact absurd hn (by omega)
    | succ n =>
      have hi' : i = p := by omega
      subst hi'
      refine pk_le i i (fun _ => ⟨pk_in i 1024 (by omega), fun b18 e18 => ?_⟩) (fun z => absurd z (by omega))
      rw [nI_clamp (show i < 2 ^ 31 by omega)] at e18
      rw [nI_1]
      refine H b18 (fun j hj => ?_) ?_ (fun j hj1 hj2 => ?_)
      · rw [e18, pk_un (by omega)]; exact h1 j (by omega) (by omega)
      · rw [e18, pk_us]
      · rw [e18, pk_un (by omega)]; exact h2 j hj1 hj2
  | succ d ih =>
    intro n i ru sz li co go re wa fo la a1 a2 a3 a4 a5 a6 a7 a8 a9 a10 a11 a12 a13 a14 a15 a16 a17 a18 hn hi hik h1 h2 H
    cases n with
    | zero => exact absurd hn (by omega)
    | succ n =>
      obtain ⟨q, rfl⟩ : ∃ q, i = q + 1 := ⟨p + d, by omega⟩
      refine pk_le (q + 1) p (fun z => absurd z (by omega)) (fun _ => ⟨pk_in q 1024 (by omega) (nI_pred q), pk_in (q + 1) 1024 (by omega), fun b18 e18 => nm_r (pk_m1 q) ?_⟩)
      rw [nI_pred, nI_clamp (show q + 1 < 2 ^ 31 by omega), nI_clamp (show q < 2 ^ 31 by omega), h1 q (by omega) (by omega)] at e18
      refine ih n q (by omega) (by omega) (by omega) (fun j hj1 hj2 => ?_) (fun j hj1 hj2 => ?_) H
      · rw [e18, pk_un (by omega)]; exact h1 j (by omega) hj2
      · rw [e18]
        by_cases z : j = q + 1
        · rw [z, pk_us]; rfl
        · rw [pk_un z]; exact h2 j (by omega) hj2
theorem rc_kc5 {post : Int32 → St2 → Prop} {ru sz li co go re wa fo la : Int32} {a1 a2 a3 a4 a5 a6 a7 a8 a9 a10 a11 a12 a13 : Nat → Int32} {a14 : Nat → Int64} {a15 : Nat → Int32} {a16 : Nat → Int64} {a17 a18 : Nat → Int32} {f : Nat → Nat} {c k : Nat} (hk : k < 1024) (hc : c < 2 ^ 31) (hf : ∀ j, j < k → f j < 2 ^ 31) (hu : rc_up f k) (h18 : ∀ j, j < k → a18 j = nI (f j))
    (H : ∀ k' f' b18, k' ≤ k + 1 → rc_up f' k' → (∀ v, (∃ j, j < k' ∧ f' j = v) ↔ ((∃ j, j < k ∧ f j = v) ∨ v = c)) → (∀ j, j < k' → b18 j = nI (f' j)) → post (nI k') (ru, sz, li, co, go, re, wa, fo, la, a1, a2, a3, a4, a5, a6, a7, a8, a9, a10, a11, a12, a13, a14, a15, a16, a17, b18)) (d : Nat) : ∀ (n lo hi : Nat), hi - lo ≤ d → d < n → lo ≤ hi → hi ≤ k → (∀ j, j < lo → f j < c) → (∀ j, hi ≤ j → j < k → c ≤ f j) → wX_keepCode_5 post (nI c) (nI k) ru sz li co go re wa fo la a1 a2 a3 a4 a5 a6 a7 a8 a9 a10 a11 a12 a13 a14 a15 a16 a17 a18 n (nI lo) (nI hi) := by
  have ins : ∀ p, p ≤ k → (∀ j, j < p → f j < c) → (∀ j, p ≤ j → j < k → c < f j) → ∃ fu, wX_keepCode_65 post (nI c) (nI k) (nI p) ru sz li co go re wa fo la fu (nI k) a1 a2 a3 a4 a5 a6 a7 a8 a9 a10 a11 a12 a13 a14 a15 a16 a17 a18 := by
    intro p hp hlo hhi
    refine ⟨k - p + 1, rc_kc65 hk hp (k - p) _ k (by omega) (by omega) (Nat.le_refl _) (fun j _ hj => h18 j hj) (fun j hj1 hj2 => absurd hj1 (by omega)) (fun b18 g1 g2 g3 => ?_)⟩
    refine H (k + 1) (fun j => if j < p then f j else if j = p then c else f (j - 1)) b18 (Nat.le_refl _) (fun i j hij hj => ?_) (fun v => ?_) (fun j hj => ?_)
    · dsimp only
      by_cases a1 : i < p
      · rw [if_pos a1]
        by_cases a2 : j < p
        · rw [if_pos a2]; exact hu i j hij (by omega)
        · rw [if_neg a2]
          by_cases a3 : j = p
          · rw [if_pos a3]; exact hlo i a1
          · rw [if_neg a3]
            have := hlo i a1
            have := hhi (j - 1) (by omega) (by omega)
            omega
      · rw [if_neg a1, if_neg (show ¬ j < p by omega), if_neg (show ¬ j = p by omega)]
        by_cases a3 : i = p
        · rw [if_pos a3]; exact hhi (j - 1) (by omega) (by omega)
        · rw [if_neg a3]; exact hu (i - 1) (j - 1) (by omega) (by omega)
    · skip
      constructor
      · intro ⟨j, hj, e⟩
        by_cases a2 : j < p
        · rw [if_pos a2] at e; exact Or.inl ⟨j, by omega, e⟩
        · rw [if_neg a2] at e
          by_cases a3 : j = p
          · rw [if_pos a3] at e; exact Or.inr e.symm
          · rw [if_neg a3] at e; exact Or.inl ⟨j - 1, by omega, e⟩
      · intro h
        rcases h with ⟨j, hj, e⟩ | e
        · by_cases a2 : j < p
          · exact ⟨j, by omega, by rw [if_pos a2]; exact e⟩
          · refine ⟨j + 1, by omega, ?_⟩
            rw [if_neg (show ¬ j + 1 < p by omega), if_neg (show ¬ j + 1 = p by omega)]
            exact e
        · exact ⟨p, by omega, by rw [if_neg (Nat.lt_irrefl p), if_pos rfl]; exact e.symm⟩
    · skip
      by_cases a2 : j < p
      · rw [if_pos a2]; exact g1 j a2
      · rw [if_neg a2]
        by_cases a3 : j = p
        · rw [if_pos a3, a3]; exact g2
        · rw [if_neg a3]; exact g3 j (by omega) (by omega)
  induction d with
  | zero =>
    intro n lo hi h1 h2 h3 h4 hlo hhi
    cases n with
    | zero => exact absurd h2 (by omega)
    | succ n =>
      have e : hi = lo := by omega
      subst e
      refine pk_le hi hi (fun _ => ?_) (fun z => absurd z (by omega))
      refine pk_le k hi (fun z => ?_) (fun z => ⟨pk_in hi 1024 (by omega), ?_⟩)
      · exact ins hi h4 hlo (fun j _ _ => by omega)
      · rw [nI_clamp (show hi < 2 ^ 31 by omega), h18 hi z]
        have b := hf hi z
        refine pk_eq (f hi) c (fun q => ?_) (fun q => ?_)
        · refine H k f a18 (by omega) hu (fun v => ⟨fun h => Or.inl h, fun h => ?_⟩) h18
          rcases h with h | h
          · exact h
          · exact ⟨hi, z, by rw [q, h]⟩
        · refine ins hi h4 hlo (fun j hj1 hj2 => ?_)
          have k1 := hhi hi (Nat.le_refl _) z
          by_cases t : j = hi
          · rw [t]; omega
          · have := hu hi j (by omega) hj2
            omega
  | succ d ih =>
    intro n lo hi h1 h2 h3 h4 hlo hhi
    cases n with
    | zero => exact absurd h2 (by omega)
    | succ n =>
      by_cases hlt : lo < hi
      · have hm1 : lo ≤ (lo + hi) / 2 := by omega
        have hm2 : (lo + hi) / 2 < hi := by omega
        refine pk_le hi lo (fun z => absurd z (by omega)) (fun _ => ⟨by decide, nm_r (e' := nI ((lo + hi) / 2)) ?_ ⟨pk_in ((lo + hi) / 2) 1024 (by omega), ?_⟩⟩)
        · rw [nI_add]
          exact pk_div (d := 2) (by omega) (by omega) (by omega)
        · rw [nI_clamp (show (lo + hi) / 2 < 2 ^ 31 by omega), h18 _ (by omega)]
          have b := hf ((lo + hi) / 2) (by omega)
          refine pk_le c (f ((lo + hi) / 2)) (fun q => ?_) (fun q => nm_r (nI_1 _) ?_)
          · refine ih n lo ((lo + hi) / 2) (by omega) (by omega) (by omega) (by omega) hlo (fun j hj1 hj2 => ?_)
            by_cases t : j = (lo + hi) / 2
            · rw [t]; exact q
            · have := hu ((lo + hi) / 2) j (by omega) hj2
              omega
          · refine ih n ((lo + hi) / 2 + 1) hi (by omega) (by omega) (by omega) h4 (fun j hj => ?_) hhi
            by_cases t : j = (lo + hi) / 2
            · rw [t]; exact q
            · have := hu j ((lo + hi) / 2) (by omega) (by omega)
              omega
      · exact ih (n + 1) lo hi (by omega) (by omega) h3 h4 hlo hhi
theorem rc_keepCode {post : Int32 → St2 → Prop} {ru sz li co go re wa fo la : Int32} {a1 a2 a3 a4 a5 a6 a7 a8 a9 a10 a11 a12 a13 : Nat → Int32} {a14 : Nat → Int64} {a15 : Nat → Int32} {a16 : Nat → Int64} {a17 a18 : Nat → Int32} {f : Nat → Nat} {c k : Nat} (hk : k < 1024) (hc : c < 2 ^ 31) (hf : ∀ j, j < k → f j < 2 ^ 31) (hu : rc_up f k) (h18 : ∀ j, j < k → a18 j = nI (f j))
    (H : ∀ k' f' b18, k' ≤ k + 1 → rc_up f' k' → (∀ v, (∃ j, j < k' ∧ f' j = v) ↔ ((∃ j, j < k ∧ f j = v) ∨ v = c)) → (∀ j, j < k' → b18 j = nI (f' j)) → post (nI k') (ru, sz, li, co, go, re, wa, fo, la, a1, a2, a3, a4, a5, a6, a7, a8, a9, a10, a11, a12, a13, a14, a15, a16, a17, b18)) : wpX_keepCode post (ru, sz, li, co, go, re, wa, fo, la, a1, a2, a3, a4, a5, a6, a7, a8, a9, a10, a11, a12, a13, a14, a15, a16, a17, a18) (nI c) (nI k) := by
  unfold wpX_keepCode
  dsimp only
  exact ⟨k + 1, rc_kc5 hk hc hf hu h18 H k (k + 1) 0 k (by omega) (by omega) (by omega) (Nat.le_refl _) (fun j hj => absurd hj (by omega)) (fun j hj1 hj2 => absurd hj1 (by omega))⟩
theorem rc_im22 {post : Int32 → St2 → Prop} {rs : List rc_R} {W : List Nat} {n : Nat} (hn : n ≤ 5) (d : Nat) : ∀ (fu w k : Nat) (f : Nat → Nat) {ru sz li co go re wa fo la : Int32} {a1 a2 a3 a4 a5 a6 a7 a8 a9 a10 a11 a12 a13 : Nat → Int32} {a14 : Nat → Int64} {a15 : Nat → Int32} {a16 : Nat → Int64} {a17 a18 : Nat → Int32}, d < fu → w + d = 4 ^ n → rc_J rs W li sz a1 a2 a3 a4 a5 a6 a7 → k ≤ w → rc_up f k → (∀ v, (∃ j, j < k ∧ f j = v) ↔ ∃ j, j < w ∧ rc_code (rc_F rs (rc_dig n j)) = v) → (∀ j, j < k → a18 j = nI (f j)) →
    (∀ k f c g e z b8 b9 b10 b11 b12 b13 b18, rc_up f k → (∀ v, (∃ j, j < k ∧ f j = v) ↔ ∃ j, j < 4 ^ n ∧ rc_code (rc_F rs (rc_dig n j)) = v) → post (nI k) (ru, sz, li, c, g, e, z, fo, la, a1, a2, a3, a4, a5, a6, a7, b8, b9, b10, b11, b12, b13, a14, a15, a16, a17, b18)) →
    wX_images_22 post (nI n) fu (nI k) (nI w) ru sz li co go re wa fo la a1 a2 a3 a4 a5 a6 a7 a8 a9 a10 a11 a12 a13 a14 a15 a16 a17 a18 := by
  have h4 := rc_p5 n (by omega)
  induction d with
  | zero =>
    intro fu w k f ru sz li co go re wa fo la a1 a2 a3 a4 a5 a6 a7 a8 a9 a10 a11 a12 a13 a14 a15 a16 a17 a18 hfu hw hJ hkw hu hs h18 H
    cases fu with
    | zero => exact absurd hfu (by omega)
    | succ fu =>
      have hw' : w = 4 ^ n := by omega
      subst hw'
      exact pk_le (4 ^ n) (4 ^ n) (fun _ => H k f _ _ _ _ _ _ _ _ _ _ _ hu hs) (fun z => absurd z (by omega)) (rc_shl n (by omega))
  | succ d ih =>
    intro fu w k f ru sz li co go re wa fo la a1 a2 a3 a4 a5 a6 a7 a8 a9 a10 a11 a12 a13 a14 a15 a16 a17 a18 hfu hw hJ hkw hu hs h18 H
    cases fu with
    | zero => exact absurd hfu (by omega)
    | succ fu =>
      refine pk_le (4 ^ n) w (fun z => absurd z (by omega)) (fun _ => ?_) (rc_shl n (by omega))
      refine rc_runNumber (by omega) hn hJ (fun c g e z b8 b9 b10 b11 b12 b13 => ?_)
      have hb : ∀ j, rc_code (rc_F rs (rc_dig n j)) < 2 ^ 26 := fun j => rc_F_lt hJ.2.2.1 (rc_dig_l n j)
      refine rc_keepCode (f := f) (by omega) (Nat.lt_trans (hb w) (by decide)) (fun j hj => ?_) hu h18 (fun k' f' b18 g1 g2 g3 g4 => nm_r (nI_1 w) ?_)
      · obtain ⟨i, _, ei⟩ := (hs (f j)).mp ⟨j, hj, rfl⟩
        have := hb i
        omega
      · refine ih fu (w + 1) k' f' (by omega) (by omega) hJ (by omega) g2 (fun v => ?_) g4 (fun k f c g e z b8 b9 b10 b11 b12 b13 b18 => H k f c g e z b8 b9 b10 b11 b12 b13 b18)
        rw [g3 v, hs v]
        constructor
        · intro h
          rcases h with ⟨j, hj, ej⟩ | h
          · exact ⟨j, by omega, ej⟩
          · exact ⟨w, by omega, h.symm⟩
        · intro ⟨j, hj, ej⟩
          by_cases t : j = w
          · right; rw [← ej, t]
          · left; exact ⟨j, by omega, ej⟩
theorem rc_sub_len {α : Type} (l1 : List α) : ∀ (l2 : List α), l1.Nodup → (∀ a, a ∈ l1 → a ∈ l2) → l1.length ≤ l2.length := by
  induction l1 with
  | nil => intro l2 _ _; exact Nat.zero_le _
  | cons a l1 ih =>
    intro l2 hn hs
    obtain ⟨s, t, e⟩ := List.append_of_mem (hs a (by simp))
    have hn' := List.nodup_cons.mp hn
    have k := ih (s ++ t) hn'.2 (fun b hb => by
      have hb2 := hs b (by simp [hb])
      rw [e] at hb2
      have hne : b ≠ a := fun z => hn'.1 (z ▸ hb)
      simp only [List.mem_append, List.mem_cons] at hb2 ⊢
      rcases hb2 with h | h | h
      · exact Or.inl h
      · exact absurd h hne
      · exact Or.inr h)
    rw [e]
    simp only [List.length_cons, List.length_append] at k ⊢
    omega
theorem rc_up_nodup {f : Nat → Nat} {k : Nat} (hu : rc_up f k) : ((List.range k).map f).Nodup := by
  unfold List.Nodup
  rw [List.pairwise_map]
  have h := (List.pairwise_lt_range (n := k))
  refine List.Pairwise.imp_of_mem (fun {a b} ha hb hab => ?_) h
  have := hu a b hab (List.mem_range.mp hb)
  omega
/-- how many codes: as many as a list without repetition holds -/
theorem rc_im_count {rs : List rc_R} {n k : Nat} {f : Nat → Nat} (hr : ∀ r, r ∈ rs → rc_Rv r) (hu : rc_up f k) (hs : ∀ v, (∃ j, j < k ∧ f j = v) ↔ ∃ j, j < 4 ^ n ∧ rc_code (rc_F rs (rc_dig n j)) = v) (Ls : List (List Nat)) (hn : Ls.Nodup) (h4 : ∀ v, v ∈ Ls → ∀ y, y ∈ v → y < 4) (h1 : ∀ v, v ∈ Ls → ∃ u, u ∈ rc_words n ∧ rc_F rs u = v) (h2 : ∀ u, u ∈ rc_words n → rc_F rs u ∈ Ls) : k = Ls.length := by
  have nd : (Ls.map rc_code).Nodup := by
    unfold List.Nodup
    rw [List.pairwise_map]
    refine List.Pairwise.imp_of_mem (fun {a b} ha hb hab e => hab (rc_code_inj a.length a b (Nat.le_refl _) (h4 a ha) (h4 b hb) e)) hn
  have e1 : ((List.range k).map f).length = k := by rw [List.length_map, List.length_range]
  have e2 : (Ls.map rc_code).length = Ls.length := List.length_map _
  have le1 := rc_sub_len _ (Ls.map rc_code) (rc_up_nodup hu) (fun v hv => by
    obtain ⟨j, hj, ej⟩ := List.mem_map.mp hv
    obtain ⟨w, hw, ew⟩ := (hs v).mp ⟨j, List.mem_range.mp hj, ej⟩
    exact List.mem_map.mpr ⟨_, h2 (rc_dig n w) (by rw [rc_words_dig]; exact List.mem_map.mpr ⟨w, List.mem_range.mpr hw, rfl⟩), ew⟩)
  have le2 := rc_sub_len _ ((List.range k).map f) nd (fun v hv => by
    obtain ⟨l, hl, el⟩ := List.mem_map.mp hv
    obtain ⟨u, hu', eu⟩ := h1 l hl
    rw [rc_words_dig] at hu'
    obtain ⟨w, hw, ew⟩ := List.mem_map.mp hu'
    obtain ⟨j, hj, ej⟩ := (hs v).mpr ⟨w, List.mem_range.mp hw, by rw [ew, eu, el]⟩
    exact List.mem_map.mpr ⟨j, List.mem_range.mpr hj, ej⟩)
  omega
theorem rc_images {post : Int32 → St2 → Prop} {ru sz li co go re wa fo la : Int32} {a1 a2 a3 a4 a5 a6 a7 a8 a9 a10 a11 a12 a13 : Nat → Int32} {a14 : Nat → Int64} {a15 : Nat → Int32} {a16 : Nat → Int64} {a17 a18 : Nat → Int32} {rl : List rc_R} {W : List Nat} {n : Nat} (hn : n ≤ 5) (hK : rc_K rl W ru sz a1 a2 a3 a4 a5 a6) (Ls : List (List Nat)) (hN : Ls.Nodup) (h4 : ∀ v, v ∈ Ls → ∀ y, y ∈ v → y < 4) (h1 : ∀ v, v ∈ Ls → ∃ u, u ∈ rc_words n ∧ rc_F rl u = v) (h2 : ∀ u, u ∈ rc_words n → rc_F rl u ∈ Ls)
    (H : ∀ l c g e z b7 b8 b9 b10 b11 b12 b13 b18, post (nI Ls.length) (ru, sz, l, c, g, e, z, fo, la, a1, a2, a3, a4, a5, a6, b7, b8, b9, b10, b11, b12, b13, a14, a15, a16, a17, b18)) : wpX_images post (ru, sz, li, co, go, re, wa, fo, la, a1, a2, a3, a4, a5, a6, a7, a8, a9, a10, a11, a12, a13, a14, a15, a16, a17, a18) (nI n) := by
  unfold wpX_images
  dsimp only
  refine rc_bad hn (br_t rfl ?_)
  refine rc_useFirst hK.1 hK.2.1 (fun b7 h7 => ⟨4 ^ n + 1, ?_⟩)
  refine rc_im22 hn (4 ^ n) (4 ^ n + 1) 0 0 (fun _ => 0) (by omega) (by omega) (rc_K_all hK h7) (Nat.le_refl _) (fun i j _ hj => absurd hj (by omega)) (fun v => ?_) (fun j hj => absurd hj (by omega)) (fun k f c g e z b8 b9 b10 b11 b12 b13 b18 q1 q2 => ?_)
  · constructor
    · intro ⟨j, hj, _⟩; exact absurd hj (by omega)
    · intro ⟨j, hj, _⟩; exact absurd hj (by omega)
  · rw [rc_im_count hK.2.2.1 q1 q2 Ls hN h4 h1 h2]
    exact H _ c g e z b7 b8 b9 b10 b11 b12 b13 b18
end
section
/-! ===== lN: masks, 'or' of parts that don't overlap is a sum ===== -/
theorem u_tn {n : Nat} (h : n < 2 ^ 64) : (UInt64.ofNat n).toNat = n := Nat.mod_eq_of_lt h
theorem g_and {a b c : Nat} (ha : a < 2 ^ 64) (hb : b < 2 ^ 64) (hc : a &&& b = c) : lN a &&& lN b = lN c := by
  subst hc
  have h : UInt64.ofNat a &&& UInt64.ofNat b = UInt64.ofNat (a &&& b) := UInt64.toNat_inj.mp (by rw [UInt64.toNat_and, u_tn ha, u_tn hb, u_tn (Nat.and_lt_two_pow a hb)])
  have h2 := congrArg UInt64.toInt64 h
  exact h2
theorem g_and1 {a : Nat} (ha : a < 2 ^ 64) : lN a &&& 1 = lN (a % 2) := g_and (b := 1) ha (by decide) (Nat.and_two_pow_sub_one_eq_mod a 1)
theorem g_mask {a s p : Nat} (hp : 2 ^ s = p) (hs : s < 64) (ha : a < 2 ^ 64) : lN a &&& lN (p - 1) = lN (a % p) := by
  subst hp
  have := Nat.pow_lt_pow_right (show 1 < 2 by decide) hs
  exact g_and ha (by omega) (Nat.and_two_pow_sub_one_eq_mod a s)
theorem g_or {k p a b : Nat} (hp : 2 ^ k = p) (ha : a < p) (h : b * p + a < 2 ^ 64) : lN (b * p) ||| lN a = lN (b * p + a) := by
  subst hp
  have h1 : b * 2 ^ k ||| a = b * 2 ^ k + a := by rw [← Nat.shiftLeft_eq, Nat.shiftLeft_add_eq_or_of_lt ha]
  have h3 : UInt64.ofNat (b * 2 ^ k) ||| UInt64.ofNat a = UInt64.ofNat (b * 2 ^ k + a) := UInt64.toNat_inj.mp (by rw [UInt64.toNat_or, u_tn (by omega), u_tn (by omega), u_tn h, h1])
  have h2 := congrArg UInt64.toInt64 h3
  exact h2
theorem g_or' {k p a b : Nat} (hp : 2 ^ k = p) (ha : a < p) (h : a + b * p < 2 ^ 64) : lN a ||| lN (b * p) = lN (a + b * p) := by
  rw [Int64.or_comm, g_or hp ha (by omega), Nat.add_comm]
theorem g_ushr {a k p : Nat} {y : UInt64} (hy : y = UInt64.ofNat k) (hk : k < 64) (hp : 2 ^ k = p) (ha : a < 2 ^ 64) : ((lN a).toUInt64 >>> y).toInt64 = lN (a / p) := by
  subst hy hp
  have h : UInt64.ofNat a >>> UInt64.ofNat k = UInt64.ofNat (a / 2 ^ k) := UInt64.toNat_inj.mp (by rw [UInt64.toNat_shiftRight, u_tn ha, u_tn (by omega), u_tn (Nat.lt_of_le_of_lt (Nat.div_le_self _ _) ha), Nat.mod_eq_of_lt hk, Nat.shiftRight_eq_div_pow])
  have h2 := congrArg UInt64.toInt64 h
  exact h2
theorem g_shl {a k p : Nat} {y : Int64} (hy : y.toBitVec.smod 64 = BitVec.ofNat 64 k) (hk : k < 64) (hp : 2 ^ k = p) (ha : a < 2 ^ 64) : lN a <<< y = lN (a * p) := by
  subst hp
  apply Int64.toBitVec_inj.mp
  rw [Int64.toBitVec_shiftLeft, hy]
  apply BitVec.eq_of_toNat_eq
  have hb : (lN a).toBitVec.toNat = a := Nat.mod_eq_of_lt ha
  have hk' : (BitVec.ofNat 64 k).toNat = k := Nat.mod_eq_of_lt (by omega)
  have h : ((lN a).toBitVec <<< BitVec.ofNat 64 k).toNat = (a * 2 ^ k) % 2 ^ 64 := by simp only [BitVec.shiftLeft_eq', BitVec.toNat_shiftLeft, hb, hk', Nat.shiftLeft_eq]
  exact h
/-! ===== lN to 2^62 under >> and >>> ===== -/
theorem pf_lI {a : Nat} (h : a < 2 ^ 63) : (lN a).toInt = (a : Int) := lg_ofNat_toInt h
theorem pf_shr {a d : Nat} {D : Int64} (hD : (D.toBitVec.smod 64).toNat = d) (h : a < 2 ^ 62) : lN a >>> D = lN (a / 2 ^ d) := by
  have hd : a / 2 ^ d ≤ a := Nat.div_le_self _ _
  apply Int64.toInt_inj.mp
  have e : (lN a >>> D).toInt = (lN a).toInt >>> d := by
    rw [← hD]
    exact BitVec.toInt_sshiftRight ..
  rw [e, Int.shiftRight_eq_div_pow, pf_lI (by omega), pf_lI (by omega)]
  rfl
end
section
/-! pack, unpack -/
def rc_hr (m : rc_M) : Nat := m.1 + 8 * m.2.1 + 64 * m.2.2
def rc_pk (ms : List rc_M) (r : Nat) : Nat := ms.foldl (fun a m => a * 1024 + rc_hr m) r
theorem rc_hr_lt {m : rc_M} (h : rc_Mv m) : rc_hr m < 1024 := by
  obtain ⟨h1, h2, h3⟩ := h
  unfold rc_hr
  omega
theorem rc_hrI : ∀ b, b < 5 → ∀ h, h < 6 → ∀ d, d < 13 → (nI b ||| (nI h <<< ((3 : Int32) &&& 31))) ||| (nI d <<< ((6 : Int32) &&& 31)) = nI (b + 8 * h + 64 * d) := by decide +kernel
theorem rc_hrU : ∀ b, b < 5 → ∀ h, h < 6 → ∀ d, d < 13 → (nI (b + 8 * h + 64 * d) &&& 7).toInt8.toInt32 = nI b ∧ ((nI (b + 8 * h + 64 * d) >>> ((3 : Int32) &&& 31)) &&& 7).toInt8.toInt32 = nI h ∧ (nI (b + 8 * h + 64 * d) >>> ((6 : Int32) &&& 31)).toInt8.toInt32 = nI d := by decide +kernel
theorem rc_hr_inj {m m' : rc_M} (h : rc_Mv m) (h' : rc_Mv m') (e : rc_hr m = rc_hr m') : m = m' := by
  obtain ⟨b, c, d⟩ := m
  obtain ⟨b', c', d'⟩ := m'
  obtain ⟨h1, h2, h3⟩ := h
  obtain ⟨g1, g2, g3⟩ := h'
  unfold rc_hr at e
  dsimp only at *
  rw [show b = b' by omega, show c = c' by omega, show d = d' by omega]
theorem rc_snocA {α : Type} (l : List α) : l = [] ∨ ∃ a d, l = a ++ [d] := by
  induction l with
  | nil => left; rfl
  | cons x xs ih =>
    right
    rcases ih with h | ⟨a, d, h⟩
    · exact ⟨[], x, by rw [h]; rfl⟩
    · exact ⟨x :: a, d, by rw [h]; rfl⟩
theorem rc_pk_app (ms : List rc_M) (m : rc_M) (r : Nat) : rc_pk (ms ++ [m]) r = rc_pk ms r * 1024 + rc_hr m := by
  unfold rc_pk
  rw [List.foldl_append]
  rfl
theorem rc_pk_inj : ∀ (n : Nat) (ms ms' : List rc_M) (r r' : Nat), ms.length = n → ms'.length = n → (∀ m, m ∈ ms → rc_Mv m) → (∀ m, m ∈ ms' → rc_Mv m) → rc_pk ms r = rc_pk ms' r' → ms = ms' ∧ r = r' := by
  intro n
  induction n with
  | zero =>
    intro ms ms' r r' h h' _ _ e
    have e1 := List.length_eq_zero_iff.mp h
    have e2 := List.length_eq_zero_iff.mp h'
    rw [e1, e2] at e
    rw [e1, e2]
    exact ⟨rfl, e⟩
  | succ n ih =>
    intro ms ms' r r' h h' hv hv' e
    rcases rc_snocA ms with q | ⟨a, d, q⟩
    · rw [q] at h; exact absurd h (by simp)
    · rcases rc_snocA ms' with q' | ⟨a', d', q'⟩
      · rw [q'] at h'; exact absurd h' (by simp)
      · rw [q] at h hv e
        rw [q'] at h' hv' e
        rw [rc_pk_app, rc_pk_app] at e
        have l1 := rc_hr_lt (hv d (by simp))
        have l2 := rc_hr_lt (hv' d' (by simp))
        have k := ih a a' r r' (by simpa using h) (by simpa using h') (fun m hm => hv m (by simp [hm])) (fun m hm => hv' m (by simp [hm])) (by omega)
        have k2 := rc_hr_inj (hv d (by simp)) (hv' d' (by simp)) (by omega)
        rw [q, q', k.1, k2]
        exact ⟨rfl, k.2⟩
theorem rc_pk_lt (ms : List rc_M) (r : Nat) (hv : ∀ m, m ∈ ms → rc_Mv m) (hr : r ≤ 12) : rc_pk ms r < 13 * 1024 ^ ms.length := by
  have g : ∀ (ms : List rc_M) (a b : Nat), (∀ m, m ∈ ms → rc_Mv m) → a < b → ms.foldl (fun a m => a * 1024 + rc_hr m) a < b * 1024 ^ ms.length := by
    intro ms
    induction ms with
    | nil => intro a b _ h; simpa using h
    | cons m ms ih =>
      intro a b hv h
      have l := rc_hr_lt (hv m (by simp))
      have k := ih (a * 1024 + rc_hr m) (b * 1024) (fun m' hm => hv m' (by simp [hm])) (by omega)
      rw [List.foldl_cons, List.length_cons, Nat.pow_succ, Nat.mul_comm (1024 ^ ms.length) 1024, ← Nat.mul_assoc]
      exact k
  exact g ms r 13 hv (by omega)
theorem rc_pk_62 {ms : List rc_M} {r : Nat} (hv : ∀ m, m ∈ ms → rc_Mv m) (hr : r ≤ 12) (h5 : ms.length ≤ 5) : rc_pk ms r < 2 ^ 62 := by
  have h := rc_pk_lt ms r hv hr
  have h2 : 1024 ^ ms.length ≤ 1024 ^ 5 := Nat.pow_le_pow_right (by omega) h5
  have h3 : 13 * 1024 ^ 5 < 2 ^ 62 := by decide
  omega
theorem rc_pack8 {post : Int64 → Prop} {ru sz li co go re wa fo la : Int32} {a1 a2 a3 a4 a5 a6 a7 a8 a9 a10 a11 a12 a13 : Nat → Int32} {a14 : Nat → Int64} {a15 : Nat → Int32} {a16 : Nat → Int64} {a17 a18 : Nat → Int32} (ms : List rc_M) : ∀ (n s a : Nat), ms.length < n → s + ms.length ≤ 5 → li = nI (s + ms.length) → (∀ m, m ∈ ms → rc_Mv m) → (∀ j m, ms[j]? = some m → rc_Mm a8 a9 a10 (s + j) m) → a < 13 * 1024 ^ s → post (lN (ms.foldl (fun a m => a * 1024 + rc_hr m) a)) → wX_pack_8 post ru sz li co go re wa fo la a1 a2 a3 a4 a5 a6 a7 a8 a9 a10 a11 a12 a13 a14 a15 a16 a17 a18 n (lN a) (nI s) := by
  induction ms with
  | nil =>
    intro n s a hn hs hli hv hM ha H
    cases n with
    | zero => exact absurd hn (by omega)
    | succ n => exact pk_le s s (fun _ => H) (fun z => absurd z (by omega)) (by rw [hli]; rfl)
  | cons m ms ih =>
    intro n s a hn hs hli hv hM ha H
    cases n with
    | zero => exact absurd hn (by omega)
    | succ n =>
      rw [List.length_cons] at hn hs hli
      have hm0 : rc_Mv m := hv m (by simp)
      have hl := rc_hr_lt hm0
      obtain ⟨v1, v2, v3⟩ := hm0
      obtain ⟨e1, e2, e3⟩ := hM 0 m rfl
      rw [Nat.add_zero] at e1 e2 e3
      have hli' : li = nI (s + 1 + ms.length) := by rw [hli]; congr 1; omega
      have hs4 : 1024 ^ s ≤ 1024 ^ 4 := Nat.pow_le_pow_right (by omega) (by omega)
      have h14 : (1024 : Nat) ^ 4 = 1099511627776 := by decide
      have ha' : a * 1024 + rc_hr m < 13 * 1024 ^ (s + 1) := by rw [Nat.pow_succ]; omega
      refine pk_le (s + 1 + ms.length) s (fun z => absurd z (by omega)) (fun _ => ⟨pk_in s 5 (by omega), pk_in s 5 (by omega), pk_in s 5 (by omega), nm_r (e' := nI (rc_hr m)) ?_ (nm_r (e' := lN (a * 1024 + rc_hr m)) ?_ (nm_r (nI_1 s) (ih n (s + 1) _ (by omega) (by omega) hli' (fun m' hm => hv m' (by simp [hm])) (fun j m' hj => ?_) ha' H)))⟩) hli'
      · rw [nI_clamp (show s < 2 ^ 31 by omega), e1, e2, e3]
        exact rc_hrI m.1 v1 m.2.1 (by omega) m.2.2 (by omega)
      · rw [nI_l (show rc_hr m < 2 ^ 31 by omega), g_shl (k := 10) (p := 1024) (by decide) (by decide) (by decide) (show a < 2 ^ 64 by omega)]
        exact g_or (k := 10) (by decide) hl (by omega)
      · rw [show s + 1 + j = s + (j + 1) by omega]
        exact hM (j + 1) m' hj
theorem rc_pack {post : Int64 → Prop} {ru sz li co go re wa fo la : Int32} {a1 a2 a3 a4 a5 a6 a7 a8 a9 a10 a11 a12 a13 : Nat → Int32} {a14 : Nat → Int64} {a15 : Nat → Int32} {a16 : Nat → Int64} {a17 a18 : Nat → Int32} {ms : List rc_M} {r : Nat} (h5 : ms.length ≤ 5) (hli : li = nI ms.length) (hv : ∀ m, m ∈ ms → rc_Mv m) (hM : ∀ j m, ms[j]? = some m → rc_Mm a8 a9 a10 j m) (hr : r ≤ 12) (hre : re = nI r) (H : post (lN (rc_pk ms r))) : wpX_pack post (ru, sz, li, co, go, re, wa, fo, la, a1, a2, a3, a4, a5, a6, a7, a8, a9, a10, a11, a12, a13, a14, a15, a16, a17, a18) := by
  subst hre
  unfold wpX_pack
  dsimp only
  rw [nI_l (show r < 2 ^ 31 by omega)]
  exact ⟨ms.length + 1, rc_pack8 ms (ms.length + 1) 0 r (by omega) (by omega) (by rw [hli, Nat.zero_add]) hv (fun j m hj => by rw [Nat.zero_add]; exact hM j m hj) (by omega) H⟩
theorem rc_un10 {post : St2 → Prop} {ms : List rc_M} {r : Nat} (h5 : ms.length ≤ 5) (hv : ∀ m, m ∈ ms → rc_Mv m) (hr : r ≤ 12) (k : Nat) : ∀ (n : Nat) (x5 : Int32) {ru sz li co go re wa fo la : Int32} {a1 a2 a3 a4 a5 a6 a7 a8 a9 a10 a11 a12 a13 : Nat → Int32} {a14 : Nat → Int64} {a15 : Nat → Int32} {a16 : Nat → Int64} {a17 a18 : Nat → Int32}, k < n → k ≤ ms.length → x5 = nI k - 1 → (∀ j m, k ≤ j → ms[j]? = some m → rc_Mm a8 a9 a10 j m) →
    (∀ b8 b9 b10, (∀ j m, ms[j]? = some m → rc_Mm b8 b9 b10 j m) → post (ru, sz, li, co, go, (nI r), 1, fo, la, a1, a2, a3, a4, a5, a6, a7, b8, b9, b10, a11, a12, a13, a14, a15, a16, a17, a18)) →
    wX_unpack_10 post ru sz li co go re wa fo la n (lN (rc_pk (ms.take k) r)) x5 a1 a2 a3 a4 a5 a6 a7 a8 a9 a10 a11 a12 a13 a14 a15 a16 a17 a18 := by
  induction k with
  | zero =>
    intro n x5 ru sz li co go re wa fo la a1 a2 a3 a4 a5 a6 a7 a8 a9 a10 a11 a12 a13 a14 a15 a16 a17 a18 hn hk hx hM H
    cases n with
    | zero => exact absurd hn (by omega)
    | succ n =>
      subst hx
      refine br_t rc_neg1 ?_
      have e : (lN (rc_pk (ms.take 0) r)).toInt32 = nI r := lN_i r
      rw [e]
      exact H a8 a9 a10 (fun j m hj => hM j m (by omega) hj)
  | succ k ih =>
    intro n x5 ru sz li co go re wa fo la a1 a2 a3 a4 a5 a6 a7 a8 a9 a10 a11 a12 a13 a14 a15 a16 a17 a18 hn hk hx hM H
    cases n with
    | zero => exact absurd hn (by omega)
    | succ n =>
      have hx' : x5 = nI k := by rw [hx, nI_pred]
      subst hx'
      have hlt : k < ms.length := by omega
      have et : ms.take (k + 1) = ms.take k ++ [ms[k]] := by rw [List.take_succ_eq_append_getElem hlt]
      have hm0 : rc_Mv ms[k] := hv _ (List.getElem_mem hlt)
      have hl := rc_hr_lt hm0
      obtain ⟨v1, v2, v3⟩ := hm0
      have hP : rc_pk (ms.take (k + 1)) r < 2 ^ 62 := rc_pk_62 (fun m hm => hv m (List.mem_of_mem_take hm)) hr (by rw [List.length_take]; omega)
      have ep : rc_pk (ms.take (k + 1)) r = rc_pk (ms.take k) r * 1024 + rc_hr ms[k] := by rw [et, rc_pk_app]
      obtain ⟨u1, u2, u3⟩ := rc_hrU ms[k].1 v1 ms[k].2.1 (by omega) ms[k].2.2 (by omega)
      have em : rc_pk (ms.take (k + 1)) r % 1024 = rc_hr ms[k] := by rw [ep]; omega
      have ed : rc_pk (ms.take (k + 1)) r / 1024 = rc_pk (ms.take k) r := by rw [ep]; omega
      refine br_f (nI_pos (by omega)) (nm_r (e' := nI (rc_hr ms[k])) ?_ ?_)
      · have q : lN (rc_pk (ms.take (k + 1)) r) &&& 1023 = lN (rc_pk (ms.take (k + 1)) r % 1024) := g_mask (s := 10) (p := 1024) (by decide) (by decide) (by omega)
        rw [q, em, lN_i]
      · rw [nI_clamp (show k < 2 ^ 31 by omega)]
        refine ⟨pk_in k 5 (by omega), fun b8 e8 => ⟨pk_in k 5 (by omega), fun b9 e9 => ⟨pk_in k 5 (by omega), fun b10 e10 => nm_r (e' := lN (rc_pk (ms.take k) r)) ?_ (nm_r (rc_m1 _) ?_)⟩⟩⟩
        · have q := pf_shr (a := rc_pk (ms.take (k + 1)) r) (d := 10) (D := (10 : Int32).toInt64 &&& 63) (by decide) hP
          rw [q, show (2 : Nat) ^ 10 = 1024 by decide, ed]
        · refine ih n _ (by omega) (by omega) rfl (fun j m hj hjm => ?_) H
          by_cases c : j = k
          · have em' : ms[k] = m := by
              rw [c, List.getElem?_eq_getElem hlt] at hjm
              exact Option.some.inj hjm
            rw [c, ← em']
            exact ⟨by rw [e8, pk_us]; exact u1, by rw [e9, pk_us]; exact u2, by rw [e10, pk_us]; exact u3⟩
          · obtain ⟨z1, z2, z3⟩ := hM j m (by omega) hjm
            exact ⟨by rw [e8, pk_un c]; exact z1, by rw [e9, pk_un c]; exact z2, by rw [e10, pk_un c]; exact z3⟩
theorem rc_unpack {post : St2 → Prop} {ru sz li co go re wa fo la : Int32} {a1 a2 a3 a4 a5 a6 a7 a8 a9 a10 a11 a12 a13 : Nat → Int32} {a14 : Nat → Int64} {a15 : Nat → Int32} {a16 : Nat → Int64} {a17 a18 : Nat → Int32} {ms : List rc_M} {r : Nat} {x : Int64} (hx : x = lN (rc_pk ms r)) (h5 : ms.length ≤ 5) (hli : li = nI ms.length) (hv : ∀ m, m ∈ ms → rc_Mv m) (hr : r ≤ 12)
    (H : ∀ b8 b9 b10, (∀ j m, ms[j]? = some m → rc_Mm b8 b9 b10 j m) → post (ru, sz, li, co, go, (nI r), 1, fo, la, a1, a2, a3, a4, a5, a6, a7, b8, b9, b10, a11, a12, a13, a14, a15, a16, a17, a18)) : wpX_unpack post (ru, sz, li, co, go, re, wa, fo, la, a1, a2, a3, a4, a5, a6, a7, a8, a9, a10, a11, a12, a13, a14, a15, a16, a17, a18) x := by
  subst hx
  unfold wpX_unpack
  dsimp only
  refine nm_e ⟨ms.length + 1, ?_⟩
  have e : ms.take ms.length = ms := List.take_length
  have k : wX_unpack_10 post ru sz li co go re wa fo la (ms.length + 1) (lN (rc_pk (ms.take ms.length) r)) (li - 1) a1 a2 a3 a4 a5 a6 a7 a8 a9 a10 a11 a12 a13 a14 a15 a16 a17 a18 := rc_un10 h5 hv hr ms.length (ms.length + 1) (li - 1) (by omega) (Nat.le_refl _) (by rw [hli]) (fun j m hj hjm => absurd (List.getElem?_eq_some_iff.mp hjm).1 (by omega)) H
  rw [e] at k
  exact k
end
section
/-! memories with their numbers of words -/
abbrev rc_En : Type := (List rc_M × Nat) × Nat
def rc_S (rs : List rc_R) (ms : List rc_M) (r : Nat) : Prop := rs.length = ms.length ∧ (∀ m, m ∈ ms → rc_Mv m) ∧ r ≤ 12
def rc_E (rs : List rc_R) (a14 : Nat → Int64) (a15 : Nat → Int32) (E : List rc_En) : Prop := ∀ j p, E[j]? = some p → rc_S rs p.1.1 p.1.2 ∧ a14 j = lN (rc_pk p.1.1 p.1.2) ∧ a15 j = nI p.2
def rc_ws (g : List rc_M → Nat → Nat) (E : List rc_En) : Nat := (E.map (fun p => p.2 * g p.1.1 p.1.2)).sum
theorem rc_ws_app (g : List rc_M → Nat → Nat) (A B : List rc_En) : rc_ws g (A ++ B) = rc_ws g A + rc_ws g B := by
  unfold rc_ws
  rw [List.map_append, List.sum_append]
theorem rc_ws_1 (g : List rc_M → Nat → Nat) (p : rc_En) : rc_ws g [p] = p.2 * g p.1.1 p.1.2 := by
  unfold rc_ws
  simp
theorem rc_split {α : Type} {E : List α} {i : Nat} {p : α} (h : E[i]? = some p) : E = E.take i ++ p :: E.drop (i + 1) ∧ (E.take i).length = i := by
  obtain ⟨hi, e⟩ := List.getElem?_eq_some_iff.mp h
  constructor
  · rw [← e, ← List.drop_eq_getElem_cons hi, List.take_append_drop]
  · rw [List.length_take]; omega
theorem rc_put {rs : List rc_R} {a14 : Nat → Int64} {a15 : Nat → Int32} {E : List rc_En} {i c d : Nat} {st : List rc_M × Nat} (hE : rc_E rs a14 a15 E) (hi : E[i]? = some (st, d)) : rc_E rs a14 (upd a15 i (nI (d + c))) (E.set i (st, d + c)) ∧ (E.set i (st, d + c)).length = E.length ∧ ∀ g, rc_ws g (E.set i (st, d + c)) = rc_ws g E + c * g st.1 st.2 := by
  have hlt := (List.getElem?_eq_some_iff.mp hi).1
  refine ⟨fun j p hj => ?_, List.length_set, fun g => ?_⟩
  · rw [List.getElem?_set] at hj
    by_cases e : i = j
    · subst e
      rw [if_pos rfl, if_pos hlt] at hj
      have e2 := Option.some.inj hj
      rw [← e2]
      obtain ⟨q1, q2, _⟩ := hE i _ hi
      exact ⟨q1, q2, pk_us⟩
    · rw [if_neg e] at hj
      rw [pk_un (fun z => e z.symm)]
      exact hE j p hj
  · obtain ⟨e, el⟩ := rc_split hi
    have e2 : E.set i (st, d + c) = E.take i ++ (st, d + c) :: E.drop (i + 1) := by
      rw [List.set_eq_take_append_cons_drop, if_pos hlt]
    have w1 : rc_ws g E = rc_ws g (E.take i ++ (st, d) :: E.drop (i + 1)) := congrArg (rc_ws g) e
    rw [w1, e2]
    have s1 : ∀ (p : rc_En) (l : List rc_En), p :: l = [p] ++ l := fun _ _ => rfl
    rw [s1 (st, d), s1 (st, d + c), rc_ws_app, rc_ws_app, rc_ws_app, rc_ws_app, rc_ws_1, rc_ws_1]
    dsimp only
    rw [Nat.add_mul]
    omega
theorem rc_add {rs : List rc_R} {a14 : Nat → Int64} {a15 : Nat → Int32} {E : List rc_En} {c : Nat} {st : List rc_M × Nat} (hE : rc_E rs a14 a15 E) (hS : rc_S rs st.1 st.2) : rc_E rs (vp_updL a14 E.length (lN (rc_pk st.1 st.2))) (upd a15 E.length (nI c)) (E ++ [(st, c)]) ∧ (E ++ [(st, c)]).length = E.length + 1 ∧ ∀ g, rc_ws g (E ++ [(st, c)]) = rc_ws g E + c * g st.1 st.2 := by
  refine ⟨fun j p hj => ?_, by simp, fun g => by rw [rc_ws_app, rc_ws_1]⟩
  rw [List.getElem?_append] at hj
  split at hj
  · next q =>
    rw [pk_un (by omega), pk_uLn (by omega)]
    exact hE j p hj
  · next q =>
    have hj0 := (List.getElem?_eq_some_iff.mp hj).1
    have e : j = E.length := by simp at hj0; omega
    rw [e, Nat.sub_self] at hj
    have e2 : (st, c) = p := Option.some.inj hj
    rw [e, ← e2, pk_us, pk_uLs]
    exact ⟨hS, rfl, rfl⟩
/-- what oneMore adds for number j -/
def rc_t (g : List rc_M → Nat → Nat) (rs : List rc_R) (W : List Nat) (E : List rc_En) (j : Nat) : Nat :=
  match E[j / 4]? with
  | some p => p.2 * rc_w g rs W p.1.1 p.1.2 (j % 4)
  | none => 0
/-- one letter more -/
def rc_g1 (g : List rc_M → Nat → Nat) (rs : List rc_R) (W : List Nat) : List rc_M → Nat → Nat := fun ms r => rc_w g rs W ms r 0 + (rc_w g rs W ms r 1 + (rc_w g rs W ms r 2 + rc_w g rs W ms r 3))
theorem rc_t_all (g : List rc_M → Nat → Nat) (rs : List rc_R) (W : List Nat) (E : List rc_En) : ∀ n, n ≤ E.length → rc_pre (rc_t g rs W E) (4 * n) = rc_ws (rc_g1 g rs W) (E.take n) := by
  intro n
  induction n with
  | zero => intro _; rfl
  | succ n ih =>
    intro hn
    have hlt : n < E.length := by omega
    have e1 : E.take (n + 1) = E.take n ++ [E[n]] := by rw [List.take_succ_eq_append_getElem hlt]
    have key : ∀ l, l < 4 → rc_t g rs W E (4 * n + l) = E[n].2 * rc_w g rs W E[n].1.1 E[n].1.2 l := by
      intro l hl
      unfold rc_t
      rw [show (4 * n + l) / 4 = n by omega, show (4 * n + l) % 4 = l by omega, List.getElem?_eq_getElem hlt]
    rw [e1, rc_ws_app, rc_ws_1, ← ih (by omega)]
    show rc_pre (rc_t g rs W E) (4 * n) + rc_t g rs W E (4 * n + 0) + rc_t g rs W E (4 * n + 1) + rc_t g rs W E (4 * n + 2) + rc_t g rs W E (4 * n + 3) = _
    rw [key 0 (by omega), key 1 (by omega), key 2 (by omega), key 3 (by omega)]
    unfold rc_g1
    rw [Nat.mul_add, Nat.mul_add, Nat.mul_add]
    omega
/-! keepNext -/
theorem rc_kn3 {post : St2 → Prop} {ru sz li co go re wa fo la : Int32} {a1 a2 a3 a4 a5 a6 a7 a8 a9 a10 a11 a12 a13 : Nat → Int32} {a14 : Nat → Int64} {a15 : Nat → Int32} {a16 : Nat → Int64} {a17 a18 : Nat → Int32} {rs : List rc_R} {E : List rc_En} {ms : List rc_M} {r c : Nat} (h5 : rs.length ≤ 5) (hE : rc_E rs a16 a17 E) (hla : la = nI E.length) (hb : E.length < 1024) (hS : rc_S rs ms r)
    (H : ∀ E' b16 b17, rc_E rs b16 b17 E' → E'.length ≤ E.length + 1 → (∀ g, rc_ws g E' = rc_ws g E + c * g ms r) → post (ru, sz, li, co, go, re, wa, fo, (nI E'.length), a1, a2, a3, a4, a5, a6, a7, a8, a9, a10, a11, a12, a13, a14, a15, b16, b17, a18)) (d : Nat) : ∀ (n i : Nat), d < n → i + d = E.length → wX_keepNext_3 post (lN (rc_pk ms r)) (nI c) ru sz li co go re wa fo la a1 a2 a3 a4 a5 a6 a7 a8 a9 a10 a11 a12 a13 a14 a15 a16 a17 a18 n (nI i) := by
  subst hla
  induction d with
  | zero =>
    intro n i hn hi
    cases n with
    | zero => exact absurd hn (by omega)
    | succ n =>
      have hi' : i = E.length := by omega
      subst hi'
      obtain ⟨q1, q2, q3⟩ := rc_add (c := c) (st := (ms, r)) hE hS
      have h := H _ _ _ q1 (by omega) q3
      rw [q2] at h
      refine pk_le E.length E.length (fun _ => ⟨pk_in E.length 1024 hb, fun b16 e16 => ⟨pk_in E.length 1024 hb, fun b17 e17 => nm_r (nI_1 _) ?_⟩⟩) (fun z => absurd z (by omega))
      rw [nI_clamp (show E.length < 2 ^ 31 by omega)] at e16 e17
      rw [e16, e17]
      exact h
  | succ d ih =>
    intro n i hn hi
    cases n with
    | zero => exact absurd hn (by omega)
    | succ n =>
      have hlt : i < E.length := by omega
      have hget := List.getElem?_eq_getElem hlt
      obtain ⟨s1, s2, s3⟩ := hE i _ hget
      refine pk_le E.length i (fun z => absurd z (by omega)) (fun _ => ⟨pk_in i 1024 (by omega), ?_⟩)
      rw [nI_clamp (show i < 2 ^ 31 by omega), s2, s3]
      refine br_c (fun q => ⟨pk_in i 1024 (by omega), pk_in i 1024 (by omega), fun b17 e17 => ?_⟩) (fun q => nm_r (nI_1 i) (ih n (i + 1) (by omega) (by omega)))
      have p1 : rc_pk E[i].1.1 E[i].1.2 < 2 ^ 62 := rc_pk_62 s1.2.1 s1.2.2 (by rw [← s1.1]; exact h5)
      have p2 : rc_pk ms r < 2 ^ 62 := rc_pk_62 hS.2.1 hS.2.2 (by rw [← hS.1]; exact h5)
      have q' := (pk_lEQ (by omega) (by omega)).mp q
      obtain ⟨t1, t2⟩ := rc_pk_inj rs.length _ _ _ _ s1.1.symm hS.1.symm s1.2.1 hS.2.1 q'
      have hst : E[i] = ((ms, r), E[i].2) := by
        rw [← t1, ← t2]
      rw [hst] at hget
      obtain ⟨u1, u2, u3⟩ := rc_put (c := c) hE hget
      have h := H _ _ _ u1 (by omega) u3
      rw [u2] at h
      rw [nI_add] at e17
      rw [e17]
      exact h
theorem rc_keepNext {post : St2 → Prop} {ru sz li co go re wa fo la : Int32} {a1 a2 a3 a4 a5 a6 a7 a8 a9 a10 a11 a12 a13 : Nat → Int32} {a14 : Nat → Int64} {a15 : Nat → Int32} {a16 : Nat → Int64} {a17 a18 : Nat → Int32} {rs : List rc_R} {E : List rc_En} {ms : List rc_M} {r c : Nat} (h5 : rs.length ≤ 5) (hE : rc_E rs a16 a17 E) (hla : la = nI E.length) (hb : E.length < 1024) (hS : rc_S rs ms r)
    (H : ∀ E' b16 b17, rc_E rs b16 b17 E' → E'.length ≤ E.length + 1 → (∀ g, rc_ws g E' = rc_ws g E + c * g ms r) → post (ru, sz, li, co, go, re, wa, fo, (nI E'.length), a1, a2, a3, a4, a5, a6, a7, a8, a9, a10, a11, a12, a13, a14, a15, b16, b17, a18)) : wpX_keepNext post (ru, sz, li, co, go, re, wa, fo, la, a1, a2, a3, a4, a5, a6, a7, a8, a9, a10, a11, a12, a13, a14, a15, a16, a17, a18) (lN (rc_pk ms r)) (nI c) := by
  unfold wpX_keepNext
  dsimp only
  exact ⟨E.length + 1, rc_kn3 h5 hE hla hb hS H E.length (E.length + 1) 0 (by omega) (by omega)⟩
/-! a memory fed -/
theorem rc_feedM {post : St2 → Prop} {ru sz li co go re wa fo la : Int32} {a1 a2 a3 a4 a5 a6 a7 a8 a9 a10 a11 a12 a13 : Nat → Int32} {a14 : Nat → Int64} {a15 : Nat → Int32} {a16 : Nat → Int64} {a17 a18 : Nat → Int32} {y r : Nat} {rs : List rc_R} {ms : List rc_M} {W : List Nat} (hy : y < 5) (hJ : rc_J rs W li sz a1 a2 a3 a4 a5 a6 a7) (hS : rc_S rs ms r) (hM : ∀ j m, ms[j]? = some m → rc_Mm a8 a9 a10 j m) (hre : re = nI r) (hwa : wa = 1)
    (H : ∀ c g b8 b9 b10 b11 b12 b13, (∀ j m, (rc_line rs ms (rc_in y) (decide (y = 4))).1[j]? = some m → rc_Mm b8 b9 b10 j m) → rc_S rs (rc_line rs ms (rc_in y) (decide (y = 4))).1 (rc_emit W r true (rc_line rs ms (rc_in y) (decide (y = 4))).2).1 → post (ru, sz, li, c, g, (nI (rc_emit W r true (rc_line rs ms (rc_in y) (decide (y = 4))).2).1), (rc_b (rc_emit W r true (rc_line rs ms (rc_in y) (decide (y = 4))).2).2), fo, la, a1, a2, a3, a4, a5, a6, a7, b8, b9, b10, b11, b12, b13, a14, a15, a16, a17, a18)) : wpX_feed post (ru, sz, li, co, go, re, wa, fo, la, a1, a2, a3, a4, a5, a6, a7, a8, a9, a10, a11, a12, a13, a14, a15, a16, a17, a18) (nI y) := by
  obtain ⟨j1, j2, j3, j4, j5, j6, j7⟩ := hJ
  have hin : ∀ z, z ∈ rc_in y → z < 4 := by
    intro z hz
    unfold rc_in at hz
    split at hz
    · exact absurd hz (by simp)
    · rw [List.mem_singleton.mp hz]; omega
  refine rc_feedW hy hS.1 j2 j1 j3 hS.2.1 j4 hM j6 hS.2.2 j5 j7 hre (w := true) hwa (fun c g b8 b9 b10 b11 b12 b13 g1 g2 g3 => ?_)
  refine H c g b8 b9 b10 b11 b12 b13 g1 ⟨(rc_line_len rs ms _ _ hS.1).symm, (rc_line_v rs ms (rc_in y) _ hS.1 j3 hS.2.1 hin).1, rc_emit_le W _ r true hS.2.2⟩
theorem rc_in_l {l : Nat} (h : l < 4) : rc_in l = [l] ∧ decide (l = 4) = false := ⟨if_neg (by omega), decide_eq_false (by omega)⟩
/-! oneMore -/
theorem rc_om77 {post : St2 → Prop} {ru sz li co go re wa fo la : Int32} {a1 a2 a3 a4 a5 a6 a7 a8 a9 a10 a11 a12 a13 : Nat → Int32} {a14 : Nat → Int64} {a15 : Nat → Int32} {a16 : Nat → Int64} {a17 a18 : Nat → Int32} {rs : List rc_R} {E : List rc_En} (hE : rc_E rs a16 a17 E) (hla : la = nI E.length) (hb : E.length ≤ 1024)
    (H : ∀ b14 b15, rc_E rs b14 b15 E → post (ru, sz, li, co, go, re, wa, fo, la, a1, a2, a3, a4, a5, a6, a7, a8, a9, a10, a11, a12, a13, b14, b15, a16, a17, a18)) : ∃ fu, wX_oneMore_77 post ru sz li co go re wa fo la fu 0 a1 a2 a3 a4 a5 a6 a7 a8 a9 a10 a11 a12 a13 a14 a15 a16 a17 a18 := by
  refine pk_loop (fun n i (s : (Nat → Int64) × (Nat → Int32)) => wX_oneMore_77 post ru sz li co go re wa fo la n (nI i) a1 a2 a3 a4 a5 a6 a7 a8 a9 a10 a11 a12 a13 s.1 s.2 a16 a17 a18) (fun i s => ∀ j, j < i → s.1 j = a16 j ∧ s.2 j = a17 j) E.length 0 (a14, a15) (by omega) (fun j hj => absurd hj (by omega)) ?_ ?_
  · intro n s h
    refine pk_le E.length E.length (fun _ => H s.1 s.2 (fun j p hj => ?_)) (fun z => absurd z (by omega)) hla
    have hjl := (List.getElem?_eq_some_iff.mp hj).1
    obtain ⟨h1, h2⟩ := h j hjl
    rw [h1, h2]
    exact hE j p hj
  · intro n i s hi h hw
    refine pk_le E.length i (fun z => absurd z (by omega)) (fun _ => ⟨pk_in i 1024 (by omega), pk_in i 1024 (by omega), fun b14 e14 => ⟨pk_in i 1024 (by omega), pk_in i 1024 (by omega), fun b15 e15 => nm_r (nI_1 i) (hw (b14, b15) (fun j hj => ?_))⟩⟩) hla
    show b14 j = a16 j ∧ b15 j = a17 j
    rw [nI_clamp (show i < 2 ^ 31 by omega)] at e14 e15
    rw [e14, e15]
    by_cases c : j = i
    · rw [c, pk_us, pk_uLs]; exact ⟨rfl, rfl⟩
    · rw [pk_un c, pk_uLn c]; exact h j (by omega)
theorem rc_om7 {post : St2 → Prop} {rs : List rc_R} {W : List Nat} {E : List rc_En} (hb : 4 * E.length ≤ 1024) (d : Nat) : ∀ (n k : Nat) (N : List rc_En) {ru sz li co go re wa fo la : Int32} {a1 a2 a3 a4 a5 a6 a7 a8 a9 a10 a11 a12 a13 : Nat → Int32} {a14 : Nat → Int64} {a15 : Nat → Int32} {a16 : Nat → Int64} {a17 a18 : Nat → Int32}, d < n → k + d = 4 * E.length → rc_J rs W li sz a1 a2 a3 a4 a5 a6 a7 → rc_E rs a14 a15 E → fo = nI E.length → rc_E rs a16 a17 N → la = nI N.length → N.length ≤ k → (∀ g, rc_ws g N = rc_pre (rc_t g rs W E) k) →
    (∀ N c g e z b8 b9 b10 b11 b12 b13 b14 b15 b16 b17, rc_E rs b14 b15 N → N.length ≤ 4 * E.length → (∀ g, rc_ws g N = rc_ws (rc_g1 g rs W) E) → post (ru, sz, li, c, g, e, z, (nI N.length), (nI N.length), a1, a2, a3, a4, a5, a6, a7, b8, b9, b10, b11, b12, b13, b14, b15, b16, b17, a18)) →
    wX_oneMore_7 post n (nI k) ru sz li co go re wa fo la a1 a2 a3 a4 a5 a6 a7 a8 a9 a10 a11 a12 a13 a14 a15 a16 a17 a18 := by
  induction d with
  | zero =>
    intro n k N ru sz li co go re wa fo la a1 a2 a3 a4 a5 a6 a7 a8 a9 a10 a11 a12 a13 a14 a15 a16 a17 a18 hn hk hJ hE hfo hN hla hNk hws H
    cases n with
    | zero => exact absurd hn (by omega)
    | succ n =>
      have hk' : k = 4 * E.length := by omega
      subst hk'
      subst hla
      refine pk_le (4 * E.length) (4 * E.length) (fun _ => ?_) (fun z => absurd z (by omega)) (by rw [hfo]; exact pk_mul 4 E.length)
      refine rc_om77 hN rfl (by omega) (fun b14 b15 q => ?_)
      refine H N _ _ _ _ _ _ _ _ _ _ _ _ _ _ q hNk (fun g => ?_)
      rw [hws g, rc_t_all g rs W E E.length (Nat.le_refl _), List.take_length]
  | succ d ih =>
    intro n k N ru sz li co go re wa fo la a1 a2 a3 a4 a5 a6 a7 a8 a9 a10 a11 a12 a13 a14 a15 a16 a17 a18 hn hk hJ hE hfo hN hla hNk hws H
    cases n with
    | zero => exact absurd hn (by omega)
    | succ n =>
      have hi : k / 4 < E.length := by omega
      have hl4 : k % 4 < 4 := Nat.mod_lt _ (by omega)
      have hget := List.getElem?_eq_getElem hi
      obtain ⟨s1, s2, s3⟩ := hE (k / 4) _ hget
      have h5 := hJ.2.1
      have esh : nI k >>> ((2 : Int32) &&& 31) = nI (k / 4) := pk_shrN (by omega) _ 2 (by decide)
      have ean : nI k &&& 3 = nI (k % 4) := pk_andN (by omega) 2 (by decide)
      have et : ∀ g, rc_pre (rc_t g rs W E) (k + 1) = rc_pre (rc_t g rs W E) k + E[k / 4].2 * rc_w g rs W E[k / 4].1.1 E[k / 4].1.2 (k % 4) := by
        intro g
        show rc_pre (rc_t g rs W E) k + rc_t g rs W E k = _
        unfold rc_t
        rw [hget]
      refine pk_le (4 * E.length) k (fun z => absurd z (by omega)) (fun _ => ?_) (by rw [hfo]; exact pk_mul 4 E.length)
      rw [esh, ean, nI_clamp (show k / 4 < 2 ^ 31 by omega)]
      refine ⟨pk_in (k / 4) 1024 (by omega), rc_unpack s2 (by rw [← s1.1]; exact h5) (by rw [← s1.1]; exact hJ.1) s1.2.1 s1.2.2 (fun b8 b9 b10 g1 => ?_)⟩
      refine rc_feedM (by omega) hJ s1 g1 rfl rfl (fun c g c8 c9 c10 c11 c12 c13 q1 q2 => ?_)
      obtain ⟨r1, r2⟩ := rc_in_l hl4
      rw [r1, r2] at q1 q2 ⊢
      cases hw : (rc_emit W E[k / 4].1.2 true (rc_line rs E[k / 4].1.1 [k % 4] false).2).2 with
      | false =>
        refine br_t rfl (nm_r (nI_1 k) ?_)
        refine ih n (k + 1) N (by omega) (by omega) hJ hE hfo hN hla (by omega) (fun g => ?_) (fun N c g e z b8 b9 b10 b11 b12 b13 b14 b15 b16 b17 => H N c g e z b8 b9 b10 b11 b12 b13 b14 b15 b16 b17)
        rw [et g, hws g]
        unfold rc_w
        rw [hw, if_neg (by simp), Nat.mul_zero, Nat.add_zero]
      | true =>
        refine br_f (by decide) (rc_pack (by rw [← q2.1]; exact h5) (by rw [← q2.1]; exact hJ.1) q2.2.1 q1 q2.2.2 rfl ⟨pk_in (k / 4) 1024 (by omega), ?_⟩)
        rw [s3]
        refine rc_keepNext h5 hN hla (by omega) q2 (fun N' b16 b17 t1 t2 t3 => nm_r (nI_1 k) ?_)
        refine ih n (k + 1) N' (by omega) (by omega) hJ hE hfo t1 rfl (by omega) (fun g => ?_) (fun N c g e z b8 b9 b10 b11 b12 b13 b14 b15 b16 b17 => H N c g e z b8 b9 b10 b11 b12 b13 b14 b15 b16 b17)
        rw [t3 g, et g, hws g]
        unfold rc_w
        rw [hw, if_pos rfl]
theorem rc_oneMore {post : St2 → Prop} {ru sz li co go re wa fo la : Int32} {a1 a2 a3 a4 a5 a6 a7 a8 a9 a10 a11 a12 a13 : Nat → Int32} {a14 : Nat → Int64} {a15 : Nat → Int32} {a16 : Nat → Int64} {a17 a18 : Nat → Int32} {rs : List rc_R} {W : List Nat} {E : List rc_En} (hb : 4 * E.length ≤ 1024) (hJ : rc_J rs W li sz a1 a2 a3 a4 a5 a6 a7) (hE : rc_E rs a14 a15 E) (hfo : fo = nI E.length)
    (H : ∀ N c g e z b8 b9 b10 b11 b12 b13 b14 b15 b16 b17, rc_E rs b14 b15 N → N.length ≤ 4 * E.length → (∀ g, rc_ws g N = rc_ws (rc_g1 g rs W) E) → post (ru, sz, li, c, g, e, z, (nI N.length), (nI N.length), a1, a2, a3, a4, a5, a6, a7, b8, b9, b10, b11, b12, b13, b14, b15, b16, b17, a18)) : wpX_oneMore post (ru, sz, li, co, go, re, wa, fo, la, a1, a2, a3, a4, a5, a6, a7, a8, a9, a10, a11, a12, a13, a14, a15, a16, a17, a18) := by
  unfold wpX_oneMore
  dsimp only
  exact ⟨4 * E.length + 1, rc_om7 hb (4 * E.length) (4 * E.length + 1) 0 [] (by omega) (by omega) hJ hE hfo (fun j p hj => absurd hj (by simp)) rfl (Nat.le_refl _) (fun g => rfl) H⟩
/-! countFrom -/
theorem rc_cf44 {post : Int32 → St2 → Prop} {rs : List rc_R} {W : List Nat} {E : List rc_En} (hb : E.length ≤ 1024) (d : Nat) : ∀ (n i : Nat) {ru sz li co go re wa fo la : Int32} {a1 a2 a3 a4 a5 a6 a7 a8 a9 a10 a11 a12 a13 : Nat → Int32} {a14 : Nat → Int64} {a15 : Nat → Int32} {a16 : Nat → Int64} {a17 a18 : Nat → Int32}, d < n → i + d = E.length → rc_J rs W li sz a1 a2 a3 a4 a5 a6 a7 → rc_E rs a14 a15 E → fo = nI E.length →
    (∀ c g e z b8 b9 b10 b11 b12 b13, post (nI (rc_ws (rc_G rs W 0) E)) (ru, sz, li, c, g, e, z, fo, la, a1, a2, a3, a4, a5, a6, a7, b8, b9, b10, b11, b12, b13, a14, a15, a16, a17, a18)) →
    wX_countFrom_44 post n (nI (rc_ws (rc_G rs W 0) (E.take i))) (nI i) ru sz li co go re wa fo la a1 a2 a3 a4 a5 a6 a7 a8 a9 a10 a11 a12 a13 a14 a15 a16 a17 a18 := by
  induction d with
  | zero =>
    intro n i ru sz li co go re wa fo la a1 a2 a3 a4 a5 a6 a7 a8 a9 a10 a11 a12 a13 a14 a15 a16 a17 a18 hn hi hJ hE hfo H
    cases n with
    | zero => exact absurd hn (by omega)
    | succ n =>
      have hi' : i = E.length := by omega
      subst hi'
      rw [List.take_length]
      exact pk_le E.length E.length (fun _ => H _ _ _ _ _ _ _ _ _ _) (fun z => absurd z (by omega)) hfo
  | succ d ih =>
    intro n i ru sz li co go re wa fo la a1 a2 a3 a4 a5 a6 a7 a8 a9 a10 a11 a12 a13 a14 a15 a16 a17 a18 hn hi hJ hE hfo H
    cases n with
    | zero => exact absurd hn (by omega)
    | succ n =>
      have hlt : i < E.length := by omega
      have hget := List.getElem?_eq_getElem hlt
      obtain ⟨s1, s2, s3⟩ := hE i _ hget
      have h5 := hJ.2.1
      have hW := hJ.2.2.2.2.2.1
      have e1 : E.take (i + 1) = E.take i ++ [E[i]] := by rw [List.take_succ_eq_append_getElem hlt]
      have e2 : rc_ws (rc_G rs W 0) (E.take (i + 1)) = rc_ws (rc_G rs W 0) (E.take i) + E[i].2 * rc_G rs W 0 E[i].1.1 E[i].1.2 := by rw [e1, rc_ws_app, rc_ws_1]
      refine pk_le E.length i (fun z => absurd z (by omega)) (fun _ => ?_) hfo
      rw [nI_clamp (show i < 2 ^ 31 by omega)]
      refine ⟨pk_in i 1024 (by omega), rc_unpack s2 (by rw [← s1.1]; exact h5) (by rw [← s1.1]; exact hJ.1) s1.2.1 s1.2.2 (fun b8 b9 b10 g1 => ?_)⟩
      refine rc_feedM (y := 4) (by omega) hJ s1 g1 rfl rfl (fun c g c8 c9 c10 c11 c12 c13 q1 q2 => ?_)
      have r1 : rc_in 4 = [] := rfl
      have r2 : decide (4 = 4) = true := rfl
      rw [r1, r2] at q2 ⊢
      have next : wX_countFrom_44 post n (nI (rc_ws (rc_G rs W 0) (E.take (i + 1)))) (nI (i + 1)) ru sz li c g (nI (rc_emit W E[i].1.2 true (rc_line rs E[i].1.1 [] true).2).1) (rc_b (rc_emit W E[i].1.2 true (rc_line rs E[i].1.1 [] true).2).2) fo la a1 a2 a3 a4 a5 a6 a7 c8 c9 c10 c11 c12 c13 a14 a15 a16 a17 a18 :=
        ih n (i + 1) (by omega) (by omega) hJ hE hfo (fun c g e z b8 b9 b10 b11 b12 b13 => H c g e z b8 b9 b10 b11 b12 b13)
      have eG : rc_G rs W 0 E[i].1.1 E[i].1.2 = if (rc_emit W E[i].1.2 true (rc_line rs E[i].1.1 [] true).2).2 = true ∧ (rc_emit W E[i].1.2 true (rc_line rs E[i].1.1 [] true).2).1 = W.length then 1 else 0 := rfl
      rw [e2, eG] at next
      cases hw : (rc_emit W E[i].1.2 true (rc_line rs E[i].1.1 [] true).2).2 with
      | false =>
        rw [hw, if_neg (by simp), Nat.mul_zero, Nat.add_zero] at next
        exact br_t rfl (nm_r (nI_1 i) next)
      | true =>
        refine br_f (by decide) (pk_eq (rc_emit W E[i].1.2 true (rc_line rs E[i].1.1 [] true).2).1 W.length (fun q => ⟨pk_in i 1024 (by omega), ?_⟩) (fun q => ?_) rfl hJ.2.2.2.2.1 (by have := q2.2.2; omega))
        · rw [hw, if_pos ⟨rfl, q⟩, Nat.mul_one] at next
          rw [s3]
          exact nm_r (nI_add _ _) (nm_r (nI_1 i) next)
        · rw [hw, if_neg (fun z => q z.2), Nat.mul_zero, Nat.add_zero] at next
          exact nm_r (nI_1 i) next
theorem rc_cf22 {post : Int32 → St2 → Prop} {rs : List rc_R} {W : List Nat} {L : Nat} (hL : L ≤ 5) (d : Nat) : ∀ (n i : Nat) (E : List rc_En) {ru sz li co go re wa fo la : Int32} {a1 a2 a3 a4 a5 a6 a7 a8 a9 a10 a11 a12 a13 : Nat → Int32} {a14 : Nat → Int64} {a15 : Nat → Int32} {a16 : Nat → Int64} {a17 a18 : Nat → Int32}, d < n → i + d = L → rc_J rs W li sz a1 a2 a3 a4 a5 a6 a7 → rc_E rs a14 a15 E → fo = nI E.length → E.length ≤ 4 ^ i →
    (∀ c g e z f l b8 b9 b10 b11 b12 b13 b14 b15 b16 b17, post (nI (rc_ws (rc_G rs W d) E)) (ru, sz, li, c, g, e, z, f, l, a1, a2, a3, a4, a5, a6, a7, b8, b9, b10, b11, b12, b13, b14, b15, b16, b17, a18)) →
    wX_countFrom_22 post (nI L) n (nI i) ru sz li co go re wa fo la a1 a2 a3 a4 a5 a6 a7 a8 a9 a10 a11 a12 a13 a14 a15 a16 a17 a18 := by
  induction d with
  | zero =>
    intro n i E ru sz li co go re wa fo la a1 a2 a3 a4 a5 a6 a7 a8 a9 a10 a11 a12 a13 a14 a15 a16 a17 a18 hn hi hJ hE hfo hEl H
    cases n with
    | zero => exact absurd hn (by omega)
    | succ n =>
      have hi' : i = L := by omega
      subst hi'
      have h4 := rc_p5 i (by omega)
      refine pk_le i i (fun _ => ⟨E.length + 1, ?_⟩) (fun z => absurd z (by omega))
      exact rc_cf44 (by omega) E.length (E.length + 1) 0 (by omega) (by omega) hJ hE hfo (fun c g e z b8 b9 b10 b11 b12 b13 => H c g e z _ _ b8 b9 b10 b11 b12 b13 _ _ _ _)
  | succ d ih =>
    intro n i E ru sz li co go re wa fo la a1 a2 a3 a4 a5 a6 a7 a8 a9 a10 a11 a12 a13 a14 a15 a16 a17 a18 hn hi hJ hE hfo hEl H
    cases n with
    | zero => exact absurd hn (by omega)
    | succ n =>
      have h4 := rc_p5 (i + 1) (by omega)
      rw [Nat.pow_succ] at h4
      refine pk_le L i (fun z => absurd z (by omega)) (fun _ => ?_)
      refine rc_oneMore (by omega) hJ hE hfo (fun N c g e z b8 b9 b10 b11 b12 b13 b14 b15 b16 b17 q1 q2 q3 => nm_r (nI_1 i) ?_)
      refine ih n (i + 1) N (by omega) (by omega) hJ q1 rfl (by rw [Nat.pow_succ]; omega) (fun c g e z f l b8 b9 b10 b11 b12 b13 b14 b15 b16 b17 => ?_)
      rw [q3 (rc_G rs W d)]
      exact H c g e z f l b8 b9 b10 b11 b12 b13 b14 b15 b16 b17
theorem rc_countFrom {post : Int32 → St2 → Prop} {ru sz li co go re wa fo la : Int32} {a1 a2 a3 a4 a5 a6 a7 a8 a9 a10 a11 a12 a13 : Nat → Int32} {a14 : Nat → Int64} {a15 : Nat → Int32} {a16 : Nat → Int64} {a17 a18 : Nat → Int32} {rs : List rc_R} {W : List Nat} {L r : Nat} {ms : List rc_M} (hL : L ≤ 5) (hJ : rc_J rs W li sz a1 a2 a3 a4 a5 a6 a7) (hS : rc_S rs ms r)
    (H : ∀ c g e z f l b8 b9 b10 b11 b12 b13 b14 b15 b16 b17, post (nI (rc_G rs W L ms r)) (ru, sz, li, c, g, e, z, f, l, a1, a2, a3, a4, a5, a6, a7, b8, b9, b10, b11, b12, b13, b14, b15, b16, b17, a18)) : wpX_countFrom post (ru, sz, li, co, go, re, wa, fo, la, a1, a2, a3, a4, a5, a6, a7, a8, a9, a10, a11, a12, a13, a14, a15, a16, a17, a18) (lN (rc_pk ms r)) (nI L) := by
  unfold wpX_countFrom
  dsimp only
  refine nm_e (nm_e ⟨L + 1, ?_⟩)
  refine rc_cf22 hL L (L + 1) 0 [((ms, r), 1)] (by omega) (by omega) hJ (fun j p hj => ?_) rfl (Nat.le_refl _) (fun c g e z f l b8 b9 b10 b11 b12 b13 b14 b15 b16 b17 => ?_)
  · cases j with
    | zero =>
      have e := Option.some.inj hj
      rw [← e]
      exact ⟨hS, pk_uLs, pk_us⟩
    | succ j => exact absurd hj (by simp)
  · have ew := rc_ws_1 (rc_G rs W L) ((ms, r), 1)
    rw [ew, Nat.one_mul]
    exact H c g e z f l b8 b9 b10 b11 b12 b13 b14 b15 b16 b17
end
section
theorem rc_words_len (n : Nat) : (rc_words n).length = 4 ^ n := by rw [rc_words_dig, List.length_map, List.length_range]
theorem rc_G_le {rs : List rc_R} {W : List Nat} {k : Nat} {ms : List rc_M} {r : Nat} (h : rs.length = ms.length) : rc_G rs W k ms r ≤ 4 ^ k := by
  rw [rc_G_Q rs W k ms r h, ← rc_words_len k]
  exact List.length_filter_le _ _
theorem rc_w_le {rs : List rc_R} {W : List Nat} {k : Nat} {ms : List rc_M} {r l : Nat} (h : rs.length = ms.length) : rc_w (rc_G rs W k) rs W ms r l ≤ 4 ^ k := by
  unfold rc_w
  split
  · exact rc_G_le (rc_line_len rs ms [l] false h).symm
  · exact Nat.zero_le _
theorem rc_S_new {rs : List rc_R} : rc_S rs (rc_new rs.length) 0 := ⟨(rc_new_len _).symm, rc_new_mem, by omega⟩
theorem rc_Q_F {rs : List rc_R} {W : List Nat} {n : Nat} : rc_Q rs W n (rc_new rs.length) 0 = (rc_words n).filter (fun u => decide (rc_F rs u = W)) := by
  unfold rc_Q
  exact congrArg (fun p => (rc_words n).filter p) (funext (fun u => rc_P_0))
theorem rc_sources {post : Int32 → St2 → Prop} {ru sz li co go re wa fo la : Int32} {a1 a2 a3 a4 a5 a6 a7 a8 a9 a10 a11 a12 a13 : Nat → Int32} {a14 : Nat → Int64} {a15 : Nat → Int32} {a16 : Nat → Int64} {a17 a18 : Nat → Int32} {rl : List rc_R} {W : List Nat} {n : Nat} (hn : n ≤ 5) (hK : rc_K rl W ru sz a1 a2 a3 a4 a5 a6)
    (H : ∀ li co go re wa fo la a7 a8 a9 a10 a11 a12 a13 a14 a15 a16 a17, post (nI ((rc_words n).filter (fun u => decide (rc_F rl u = W))).length) (ru, sz, li, co, go, re, wa, fo, la, a1, a2, a3, a4, a5, a6, a7, a8, a9, a10, a11, a12, a13, a14, a15, a16, a17, a18)) : wpX_sources post (ru, sz, li, co, go, re, wa, fo, la, a1, a2, a3, a4, a5, a6, a7, a8, a9, a10, a11, a12, a13, a14, a15, a16, a17, a18) (nI n) := by
  have h5 := hK.2.1
  rw [← rc_Q_F, ← rc_G_Q rl W n _ _ (rc_new_len _).symm] at H
  unfold wpX_sources
  dsimp only
  refine rc_bad hn (br_t rfl ?_)
  refine rc_useFirst hK.1 hK.2.1 (fun b7 h7 => rc_begin (fun b8 b9 b10 h => ?_))
  refine rc_pack (ms := rc_new rl.length) (r := 0) (by rw [rc_new_len]; exact h5) (by rw [rc_new_len]) rc_new_mem (fun j m hj => ?_) (by omega) rfl ?_
  · have hl := (List.getElem?_eq_some_iff.mp hj).1
    rw [rc_new_len] at hl
    rw [rc_new_at hj]
    exact h j (by omega)
  · exact rc_countFrom hn (rc_K_all hK h7) rc_S_new (fun c g e z f l b8 b9 b10 b11 b12 b13 b14 b15 b16 b17 => H _ _ _ _ _ _ _ _ _ _ _ _ _ _ _ _ _ _)
/-- J59, J79: the law's outer and inner turns -/
theorem rc_so79 {post : Int32 → St2 → Prop} {J : Int64 → Int32 → Int32 → Int32 → Int32 → Int32 → Int32 → Int32 → Int32 → Int32 → Int32 → Int32 → Int32 → (Nat → Int32) → (Nat → Int32) → (Nat → Int32) → (Nat → Int32) → (Nat → Int32) → (Nat → Int32) → (Nat → Int32) → (Nat → Int32) → (Nat → Int32) → (Nat → Int32) → (Nat → Int32) → (Nat → Int32) → (Nat → Int32) → (Nat → Int64) → (Nat → Int32) → (Nat → Int64) → (Nat → Int32) → (Nat → Int32) → Prop}
    {rs : List rc_R} {W : List Nat} {ms : List rc_M} {r i q left code : Nat} (hi : i ≤ 4) (hS : rc_S rs ms r) (hq : q < 4) (hleft : left < 2 ^ 30) (hpre : rc_pre (rc_w (rc_G rs W i) rs W ms r) q ≤ left) (hlast : left - rc_pre (rc_w (rc_G rs W i) rs W ms r) q < rc_w (rc_G rs W i) rs W ms r q) (d : Nat) : ∀ (n l : Nat) (x9 : Int32) (x10 : Int64) {ru sz li co go re wa fo la : Int32} {a1 a2 a3 a4 a5 a6 a7 a8 a9 a10 a11 a12 a13 : Nat → Int32} {a14 : Nat → Int64} {a15 : Nat → Int32} {a16 : Nat → Int64} {a17 a18 : Nat → Int32}, d + 1 < n → l + d = q → rc_J rs W li sz a1 a2 a3 a4 a5 a6 a7 →
    (∀ li co go re wa fo la a7 a8 a9 a10 a11 a12 a13 a14 a15 a16 a17, rc_J rs W li sz a1 a2 a3 a4 a5 a6 a7 → J (lN (rc_pk (rc_line rs ms [q] false).1 (rc_emit W r true (rc_line rs ms [q] false).2).1)) (nI (left - rc_pre (rc_w (rc_G rs W i) rs W ms r) q)) (nI (4 * code + q)) (nI i - 1) ru sz li co go re wa fo la a1 a2 a3 a4 a5 a6 a7 a8 a9 a10 a11 a12 a13 a14 a15 a16 a17 a18) →
    wX_source_79 post J (lN (rc_pk ms r)) (nI code) (nI i) n (nI (left - rc_pre (rc_w (rc_G rs W i) rs W ms r) l)) x9 x10 1 (nI l) ru sz li co go re wa fo la a1 a2 a3 a4 a5 a6 a7 a8 a9 a10 a11 a12 a13 a14 a15 a16 a17 a18 := by
  have hmono : ∀ a b, a ≤ b → rc_pre (rc_w (rc_G rs W i) rs W ms r) a ≤ rc_pre (rc_w (rc_G rs W i) rs W ms r) b := by
    intro a b hab
    induction b with
    | zero => rw [show a = 0 by omega]; exact Nat.le_refl _
    | succ b ih =>
      by_cases c : a = b + 1
      · rw [c]; exact Nat.le_refl _
      · exact Nat.le_trans (ih (by omega)) (Nat.le_add_right _ _)
  induction d with
  | zero =>
    intro n l x9 x10 ru sz li co go re wa fo la a1 a2 a3 a4 a5 a6 a7 a8 a9 a10 a11 a12 a13 a14 a15 a16 a17 a18 hn hl hJ H
    cases n with
    | zero => exact absurd hn (by omega)
    | succ n =>
      have hl' : l = q := by omega
      subst hl'
      have h5 := hJ.2.1
      have h4 := rc_p5 i (by omega)
      have hwl : rc_w (rc_G rs W i) rs W ms r l ≤ 4 ^ i := rc_w_le hS.1
      refine pk_le 4 l (fun z => absurd z (by omega)) (fun _ => br_f (by decide) ?_)
      refine rc_unpack rfl (by rw [← hS.1]; exact h5) (by rw [← hS.1]; exact hJ.1) hS.2.1 hS.2.2 (fun b8 b9 b10 g1 => ?_)
      refine rc_feedM (by omega) hJ hS g1 rfl rfl (fun c g c8 c9 c10 c11 c12 c13 q1 q2 => ?_)
      obtain ⟨r1, r2⟩ := rc_in_l hq
      rw [r1, r2] at q1 q2 ⊢
      refine rc_pack (by rw [← q2.1]; exact h5) (by rw [← q2.1]; exact hJ.1) q2.2.1 q1 q2.2.2 rfl ?_
      refine rc_countFrom (by omega) hJ q2 (fun c g e z f l' b8 b9 b10 b11 b12 b13 b14 b15 b16 b17 => ?_)
      have fin : wX_source_134 post J (wX_source_79 post J (lN (rc_pk ms r)) (nI code) (nI i) n) (lN (rc_pk ms r)) (nI (left - rc_pre (rc_w (rc_G rs W i) rs W ms r) l)) (nI code) (nI i) (lN (rc_pk (rc_line rs ms [l] false).1 (rc_emit W r true (rc_line rs ms [l] false).2).1)) (nI l) (nI (rc_w (rc_G rs W i) rs W ms r l)) ru sz li c g e z f l' a1 a2 a3 a4 a5 a6 a7 b8 b9 b10 b11 b12 b13 b14 b15 b16 b17 a18 := by
        unfold wX_source_134
        refine pk_lt (left - rc_pre (rc_w (rc_G rs W i) rs W ms r) l) (rc_w (rc_G rs W i) rs W ms r l) (fun _ => ?_) (fun z => absurd z (by omega))
        unfold wX_source_152
        refine br_t rfl (nm_r (nI_1 l) ?_)
        cases n with
        | zero => exact absurd hn (by omega)
        | succ n =>
          have k177 : wX_source_177 post J (nI (left - rc_pre (rc_w (rc_G rs W i) rs W ms r) l)) (nI code) (nI i) (nI l) (lN (rc_pk (rc_line rs ms [l] false).1 (rc_emit W r true (rc_line rs ms [l] false).2).1)) ru sz li c g e z f l' a1 a2 a3 a4 a5 a6 a7 b8 b9 b10 b11 b12 b13 b14 b15 b16 b17 a18 := by
            unfold wX_source_177
            refine nm_r (e' := nI (4 * code + l)) ?_ (nm_r (rc_m1 _) (H _ _ _ _ _ _ _ _ _ _ _ _ _ _ _ _ _ _ hJ))
            rw [show (4 : Int32) = nI 4 by rfl, pk_mul, nI_add]
          exact br_c (fun _ => k177) (fun _ => br_t rfl k177)
      unfold rc_w at fin
      cases hw : (rc_emit W r true (rc_line rs ms [l] false).2).2 with
      | false =>
        rw [hw, if_neg (by simp)] at fin
        exact br_t rfl fin
      | true =>
        rw [hw, if_pos rfl] at fin
        exact br_f (by decide) fin
  | succ d ih =>
    intro n l x9 x10 ru sz li co go re wa fo la a1 a2 a3 a4 a5 a6 a7 a8 a9 a10 a11 a12 a13 a14 a15 a16 a17 a18 hn hl hJ H
    cases n with
    | zero => exact absurd hn (by omega)
    | succ n =>
      have hl4 : l < 4 := by omega
      have h5 := hJ.2.1
      have h4 := rc_p5 i (by omega)
      have hwl : rc_w (rc_G rs W i) rs W ms r l ≤ 4 ^ i := rc_w_le hS.1
      have hm := hmono (l + 1) q (by omega)
      have hsucc : rc_pre (rc_w (rc_G rs W i) rs W ms r) (l + 1) = rc_pre (rc_w (rc_G rs W i) rs W ms r) l + rc_w (rc_G rs W i) rs W ms r l := rfl
      refine pk_le 4 l (fun z => absurd z (by omega)) (fun _ => br_f (by decide) ?_)
      refine rc_unpack rfl (by rw [← hS.1]; exact h5) (by rw [← hS.1]; exact hJ.1) hS.2.1 hS.2.2 (fun b8 b9 b10 g1 => ?_)
      refine rc_feedM (by omega) hJ hS g1 rfl rfl (fun c g c8 c9 c10 c11 c12 c13 q1 q2 => ?_)
      obtain ⟨r1, r2⟩ := rc_in_l hl4
      rw [r1, r2] at q1 q2 ⊢
      refine rc_pack (by rw [← q2.1]; exact h5) (by rw [← q2.1]; exact hJ.1) q2.2.1 q1 q2.2.2 rfl ?_
      refine rc_countFrom (by omega) hJ q2 (fun c g e z f l' b8 b9 b10 b11 b12 b13 b14 b15 b16 b17 => ?_)
      have fin : wX_source_134 post J (wX_source_79 post J (lN (rc_pk ms r)) (nI code) (nI i) n) (lN (rc_pk ms r)) (nI (left - rc_pre (rc_w (rc_G rs W i) rs W ms r) l)) (nI code) (nI i) (lN (rc_pk (rc_line rs ms [l] false).1 (rc_emit W r true (rc_line rs ms [l] false).2).1)) (nI l) (nI (rc_w (rc_G rs W i) rs W ms r l)) ru sz li c g e z f l' a1 a2 a3 a4 a5 a6 a7 b8 b9 b10 b11 b12 b13 b14 b15 b16 b17 a18 := by
        unfold wX_source_134
        refine pk_lt (left - rc_pre (rc_w (rc_G rs W i) rs W ms r) l) (rc_w (rc_G rs W i) rs W ms r l) (fun z => absurd z (by omega)) (fun _ => ?_)
        unfold wX_source_152
        refine br_f (by decide) (nm_r (e' := nI (left - rc_pre (rc_w (rc_G rs W i) rs W ms r) (l + 1))) ?_ (nm_r (nI_1 l) ?_))
        · rw [pk_sub (by omega), hsucc]
          congr 1
          omega
        · exact ih n (l + 1) _ _ (by omega) (by omega) hJ H
      unfold rc_w at fin
      cases hw : (rc_emit W r true (rc_line rs ms [l] false).2).2 with
      | false =>
        rw [hw, if_neg (by simp)] at fin
        exact br_t rfl fin
      | true =>
        rw [hw, if_pos rfl] at fin
        exact br_f (by decide) fin
theorem rc_so59 {post : Int32 → St2 → Prop} {rs : List rc_R} {W : List Nat} (k : Nat) : ∀ (n left code r : Nat) (ms : List rc_M) (u : List Nat) (x8 : Int32) {ru sz li co go re wa fo la : Int32} {a1 a2 a3 a4 a5 a6 a7 a8 a9 a10 a11 a12 a13 : Nat → Int32} {a14 : Nat → Int64} {a15 : Nat → Int32} {a16 : Nat → Int64} {a17 a18 : Nat → Int32}, k < n → k ≤ 5 → left < 2 ^ 30 → rc_S rs ms r → (rc_Q rs W k ms r)[left]? = some u → x8 = nI k - 1 → rc_J rs W li sz a1 a2 a3 a4 a5 a6 a7 →
    (∀ li co go re wa fo la a7 a8 a9 a10 a11 a12 a13 a14 a15 a16 a17, post (nI (u.foldl (fun c d => 4 * c + d) code)) (ru, sz, li, co, go, re, wa, fo, la, a1, a2, a3, a4, a5, a6, a7, a8, a9, a10, a11, a12, a13, a14, a15, a16, a17, a18)) →
    wX_source_59 post n (lN (rc_pk ms r)) (nI left) (nI code) x8 ru sz li co go re wa fo la a1 a2 a3 a4 a5 a6 a7 a8 a9 a10 a11 a12 a13 a14 a15 a16 a17 a18 := by
  induction k with
  | zero =>
    intro n left code r ms u x8 ru sz li co go re wa fo la a1 a2 a3 a4 a5 a6 a7 a8 a9 a10 a11 a12 a13 a14 a15 a16 a17 a18 hn hk hleft hS hu hx hJ H
    cases n with
    | zero => exact absurd hn (by omega)
    | succ n =>
      have hm : u ∈ rc_words 0 := (List.mem_filter.mp (List.mem_of_getElem? hu)).1
      have hu0 : u = [] := List.mem_singleton.mp hm
      rw [hu0] at H
      subst hx
      exact br_t rc_neg1 (H _ _ _ _ _ _ _ _ _ _ _ _ _ _ _ _ _ _)
  | succ k ih =>
    intro n left code r ms u x8 ru sz li co go re wa fo la a1 a2 a3 a4 a5 a6 a7 a8 a9 a10 a11 a12 a13 a14 a15 a16 a17 a18 hn hk hleft hS hu hx hJ H
    cases n with
    | zero => exact absurd hn (by omega)
    | succ n =>
      obtain ⟨q, v, hq, eu, hpre, hw, hv⟩ := rc_Q_pick hS.1 hu
      have hx' : x8 = nI k := by rw [hx, nI_pred]
      subst hx'
      have hlen := (List.getElem?_eq_some_iff.mp hv).1
      have hS' : rc_S rs (rc_line rs ms [q] false).1 (rc_emit W r true (rc_line rs ms [q] false).2).1 := ⟨(rc_line_len rs ms _ _ hS.1).symm, (rc_line_v rs ms [q] _ hS.1 hJ.2.2.1 hS.2.1 (by intro z hz; rw [List.mem_singleton.mp hz]; exact hq)).1, rc_emit_le W _ r true hS.2.2⟩
      have hlast : left - rc_pre (rc_w (rc_G rs W k) rs W ms r) q < rc_w (rc_G rs W k) rs W ms r q := by
        have e : rc_w (rc_G rs W k) rs W ms r q = (rc_Q rs W k (rc_line rs ms [q] false).1 (rc_emit W r true (rc_line rs ms [q] false).2).1).length := by
          rw [← rc_G_Q rs W k _ _ hS'.1]
          unfold rc_w
          rw [if_pos hw]
        omega
      refine br_f (nI_pos (by omega)) ⟨6, ?_⟩
      have h0 : left - rc_pre (rc_w (rc_G rs W k) rs W ms r) 0 = left := rfl
      have key := rc_so79 (post := post) (J := wX_source_59 post n) (code := code) (by omega : k ≤ 4) hS hq hleft hpre hlast q 6 0 0 0 (ru := ru) (sz := sz) (li := li) (co := co) (go := go) (re := re) (wa := wa) (fo := fo) (la := la) (a1 := a1) (a2 := a2) (a3 := a3) (a4 := a4) (a5 := a5) (a6 := a6) (a7 := a7) (a8 := a8) (a9 := a9) (a10 := a10) (a11 := a11) (a12 := a12) (a13 := a13) (a14 := a14) (a15 := a15) (a16 := a16) (a17 := a17) (a18 := a18) (by omega) (by omega) hJ (fun li' co' go' re' wa' fo' la' b7 b8 b9 b10 b11 b12 b13 b14 b15 b16 b17 hJ' => ?_)
      · rw [h0] at key
        exact key
      · refine ih n _ _ _ _ v _ (by omega) (by omega) (by omega) hS' hv rfl hJ' (fun li co go re wa fo la a7 a8 a9 a10 a11 a12 a13 a14 a15 a16 a17 => ?_)
        have H' := H li co go re wa fo la a7 a8 a9 a10 a11 a12 a13 a14 a15 a16 a17
        rw [eu, List.foldl_cons] at H'
        exact H'
/-- source: the word number k, or none -/
theorem rc_source {post : Int32 → St2 → Prop} {ru sz li co go re wa fo la : Int32} {a1 a2 a3 a4 a5 a6 a7 a8 a9 a10 a11 a12 a13 : Nat → Int32} {a14 : Nat → Int64} {a15 : Nat → Int32} {a16 : Nat → Int64} {a17 a18 : Nat → Int32} {rl : List rc_R} {W : List Nat} {n k : Nat} (hn : n ≤ 5) (hk : k < 2 ^ 30) (hK : rc_K rl W ru sz a1 a2 a3 a4 a5 a6)
    (H : ∀ li co go re wa fo la a7 a8 a9 a10 a11 a12 a13 a14 a15 a16 a17, post (match ((rc_words n).filter (fun u => decide (rc_F rl u = W)))[k]? with | some u => nI (rc_code u) | none => -4) (ru, sz, li, co, go, re, wa, fo, la, a1, a2, a3, a4, a5, a6, a7, a8, a9, a10, a11, a12, a13, a14, a15, a16, a17, a18)) : wpX_source post (ru, sz, li, co, go, re, wa, fo, la, a1, a2, a3, a4, a5, a6, a7, a8, a9, a10, a11, a12, a13, a14, a15, a16, a17, a18) (nI n) (nI k) := by
  have h5 := hK.2.1
  have h4 := rc_p5 n (by omega)
  rw [← rc_Q_F] at H
  unfold wpX_source
  dsimp only
  refine rc_bad hn (br_t rfl ?_)
  refine rc_useFirst hK.1 hK.2.1 (fun b7 h7 => rc_begin (fun b8 b9 b10 h => ?_))
  refine rc_pack (ms := rc_new rl.length) (r := 0) (by rw [rc_new_len]; exact h5) (by rw [rc_new_len]) rc_new_mem (fun j m hj => ?_) (by omega) rfl ?_
  · have hl := (List.getElem?_eq_some_iff.mp hj).1
    rw [rc_new_len] at hl
    rw [rc_new_at hj]
    exact h j (by omega)
  · refine rc_countFrom hn (rc_K_all hK h7) rc_S_new (fun c g e z f l b8 b9 b10 b11 b12 b13 b14 b15 b16 b17 => ?_)
    have hG : rc_G rl W n (rc_new rl.length) 0 ≤ 4 ^ n := rc_G_le (rc_new_len _).symm
    have hQ := rc_G_Q rl W n (rc_new rl.length) 0 (rc_new_len _).symm
    refine br_f (nI_pos (by omega)) (pk_lt k (rc_G rl W n (rc_new rl.length) 0) (fun z => ?_) (fun z => ?_))
    · have hlt : k < (rc_Q rl W n (rc_new rl.length) 0).length := by omega
      have hget := List.getElem?_eq_getElem hlt
      rw [hget] at H
      exact nm_e ⟨n + 1, rc_so59 n (n + 1) k 1 0 (rc_new rl.length) _ _ (by omega) hn hk rc_S_new hget rfl (rc_K_all hK h7) H⟩
    · have hget : (rc_Q rl W n (rc_new rl.length) 0)[k]? = none := List.getElem?_eq_none (by omega)
      rw [hget] at H
      exact H _ _ _ _ _ _ _ _ _ _ _ _ _ _ _ _ _ _
end
section
/-! the rules and the word are changed -/
theorem rc_badL {post : Int32 → Prop} {ru sz li co go re wa fo la : Int32} {a1 a2 a3 a4 a5 a6 a7 a8 a9 a10 a11 a12 a13 : Nat → Int32} {a14 : Nat → Int64} {a15 : Nat → Int32} {a16 : Nat → Int64} {a17 a18 : Nat → Int32} {v : Nat} (hv : v < 4) (H : post 0) : wpX_badLetter post (ru, sz, li, co, go, re, wa, fo, la, a1, a2, a3, a4, a5, a6, a7, a8, a9, a10, a11, a12, a13, a14, a15, a16, a17, a18) (nI v) := by
  unfold wpX_badLetter
  exact br_f (nI_pos (by omega)) (pk_le v 3 (fun _ => H) (fun z => absurd z (by omega)))
theorem rc_push {post : Int32 → St2 → Prop} {ru sz li co go re wa fo la : Int32} {a1 a2 a3 a4 a5 a6 a7 a8 a9 a10 a11 a12 a13 : Nat → Int32} {a14 : Nat → Int64} {a15 : Nat → Int32} {a16 : Nat → Int64} {a17 a18 : Nat → Int32} {rl : List rc_R} {W : List Nat} {l : Nat} (hl : l < 4) (hW : W.length < 12) (hK : rc_K rl W ru sz a1 a2 a3 a4 a5 a6)
    (H : ∀ sz a6, rc_K rl (W ++ [l]) ru sz a1 a2 a3 a4 a5 a6 → post (nI (W.length + 1)) (ru, sz, li, co, go, re, wa, fo, la, a1, a2, a3, a4, a5, a6, a7, a8, a9, a10, a11, a12, a13, a14, a15, a16, a17, a18)) : wpX_push post (ru, sz, li, co, go, re, wa, fo, la, a1, a2, a3, a4, a5, a6, a7, a8, a9, a10, a11, a12, a13, a14, a15, a16, a17, a18) (nI l) := by
  obtain ⟨k1, k2, k3, k4, k5, k6, k7⟩ := hK
  subst k5
  unfold wpX_push
  dsimp only
  refine rc_badL hl (br_t rfl (pk_eq W.length 12 (fun z => absurd z (by omega)) (fun _ => ⟨pk_in W.length 12 hW, fun b6 e6 => nm_r (nI_1 _) ?_⟩)))
  rw [nI_clamp (show W.length < 2 ^ 31 by omega), rc_b8 l (by omega)] at e6
  refine H _ b6 ⟨k1, k2, k3, k4, by rw [List.length_append]; rfl, by rw [List.length_append]; exact hW, ?_⟩
  rw [e6]
  exact rc_A_snoc k7 hl
theorem rc_r134 {post : Int32 → St2 → Prop} {ru sz li co go re wa fo la : Int32} {a1 a2 a3 a4 a5 a6 a7 a8 a9 a10 a11 a12 a13 : Nat → Int32} {a14 : Nat → Int64} {a15 : Nat → Int32} {a16 : Nat → Int64} {a17 a18 : Nat → Int32} {L t s : Nat} (hL : L < 5) (hru : ru = nI L) (ht : t < 4) (hs : s < 1024) (H : post (nI (L + 1)) ((nI (L + 1)), sz, li, co, go, re, wa, fo, la, a1, a2, (upd a3 L (nI t)), (upd a4 L (nI (s % 32))), (upd a5 L (nI (s / 32))), a6, a7, a8, a9, a10, a11, a12, a13, a14, a15, a16, a17, a18)) : wX_rule_134 post (nI s) (nI t) ru ru sz li co go re wa fo la a1 a2 a3 a4 a5 a6 a7 a8 a9 a10 a11 a12 a13 a14 a15 a16 a17 a18 := by
  subst hru
  have e4 : (nI s &&& 31).toInt8.toInt32 = nI (s % 32) := by
    have h : nI s &&& 31 = nI (s % 2 ^ 5) := pk_andN (by omega) 5 (by decide)
    rw [h]
    exact rc_b8 _ (by omega)
  have e5 : (nI s >>> ((5 : Int32) &&& 31)).toInt8.toInt32 = nI (s / 32) := by
    have h : nI s >>> ((5 : Int32) &&& 31) = nI (s / 2 ^ 5) := pk_shrN (by omega) _ 5 (by decide)
    rw [h]
    exact rc_b8 _ (by omega)
  unfold wX_rule_134
  rw [nI_clamp (show L < 2 ^ 31 by omega), e4, e5, rc_b8 t (by omega)]
  exact ⟨pk_in L 5 hL, nm_e ⟨pk_in L 5 hL, nm_e ⟨pk_in L 5 hL, nm_e (nm_r (nI_1 L) H)⟩⟩⟩
theorem rc_r114 {post : Int32 → St2 → Prop} {ru sz li co go re wa fo la : Int32} {a1 a2 a3 a4 a5 a6 a7 a8 a9 a10 a11 a12 a13 : Nat → Int32} {a14 : Nat → Int64} {a15 : Nat → Int32} {a16 : Nat → Int64} {a17 a18 : Nat → Int32} {L f t s : Nat} {x3 x6 : Int32} (hL : L < 5) (hru : ru = nI L) (hf : f < 4) (ht : t < 4) (hs : s < 1024) (h6 : (x6 = 0 ∧ t = 0) ∨ (¬ x6 = 0 ∧ x3 = nI t)) (H : post (nI (L + 1)) ((nI (L + 1)), sz, li, co, go, re, wa, fo, la, a1, (upd a2 L (nI f)), (upd a3 L (nI t)), (upd a4 L (nI (s % 32))), (upd a5 L (nI (s / 32))), a6, a7, a8, a9, a10, a11, a12, a13, a14, a15, a16, a17, a18)) : wX_rule_114 post x3 (nI s) x6 (nI f) ru ru sz li co go re wa fo la a1 a2 a3 a4 a5 a6 a7 a8 a9 a10 a11 a12 a13 a14 a15 a16 a17 a18 := by
  have cl : ru.toNatClampNeg = L := by rw [hru]; exact nI_clamp (by omega)
  unfold wX_rule_114
  rw [cl, rc_b8 f (by omega)]
  refine ⟨pk_in L 5 hL hru, nm_e ?_⟩
  rcases h6 with ⟨q1, q2⟩ | ⟨q1, q2⟩
  · subst q2
    exact br_t q1 (rc_r134 (t := 0) hL hru ht hs H)
  · subst q2
    exact br_f q1 (rc_r134 hL hru ht hs H)
theorem rc_r59 {post : Int32 → St2 → Prop} {ru sz li co go re wa fo la : Int32} {a1 a2 a3 a4 a5 a6 a7 a8 a9 a10 a11 a12 a13 : Nat → Int32} {a14 : Nat → Int64} {a15 : Nat → Int32} {a16 : Nat → Int64} {a17 a18 : Nat → Int32} {L k f t s : Nat} {x2 x3 x5 x6 : Int32} (hL : L < 5) (hru : ru = nI L) (hk : k < 3) (hf : f < 4) (ht : t < 4) (hs : s < 1024) (h5 : (x5 = 0 ∧ f = 0) ∨ (¬ x5 = 0 ∧ x2 = nI f)) (h6 : (x6 = 0 ∧ t = 0) ∨ (¬ x6 = 0 ∧ x3 = nI t)) (H : post (nI (L + 1)) ((nI (L + 1)), sz, li, co, go, re, wa, fo, la, (upd a1 L (nI k)), (upd a2 L (nI f)), (upd a3 L (nI t)), (upd a4 L (nI (s % 32))), (upd a5 L (nI (s / 32))), a6, a7, a8, a9, a10, a11, a12, a13, a14, a15, a16, a17, a18)) : wX_rule_59 post (nI k) x2 x3 (nI s) x5 x6 ru sz li co go re wa fo la a1 a2 a3 a4 a5 a6 a7 a8 a9 a10 a11 a12 a13 a14 a15 a16 a17 a18 := by
  have cl : ru.toNatClampNeg = L := by rw [hru]; exact nI_clamp (by omega)
  unfold wX_rule_59
  rw [cl, rc_b8 k (by omega)]
  refine br_f (nI_pos (by omega)) (pk_le s 1023 (fun _ => ?_) (fun z => absurd z (by omega)))
  refine pk_eq L 5 (fun z => absurd z (by omega)) (fun _ => ⟨pk_in L 5 hL hru, nm_e ?_⟩) hru
  rcases h5 with ⟨q1, q2⟩ | ⟨q1, q2⟩
  · subst q2
    exact br_t q1 (rc_r114 (f := 0) hL hru hf ht hs h6 H)
  · subst q2
    exact br_f q1 (rc_r114 hL hru hf ht hs h6 H)
theorem rc_K_add {rl : List rc_R} {W : List Nat} {ru sz : Int32} {a1 a2 a3 a4 a5 a6 : Nat → Int32} {k f t s : Nat} (hK : rc_K rl W ru sz a1 a2 a3 a4 a5 a6) (hL : rl.length < 5) (hk : k < 3) (hf : f < 4) (ht : t < 4) (hs : s < 1024) : rc_K (rl ++ [(k, f, t, s % 32, s / 32)]) W (nI (rl.length + 1)) sz (upd a1 rl.length (nI k)) (upd a2 rl.length (nI f)) (upd a3 rl.length (nI t)) (upd a4 rl.length (nI (s % 32))) (upd a5 rl.length (nI (s / 32))) a6 := by
  obtain ⟨k1, k2, k3, k4, k5, k6, k7⟩ := hK
  refine ⟨by rw [List.length_append]; rfl, by rw [List.length_append]; exact hL, fun r hr => ?_, fun j r hj => ?_, k5, k6, k7⟩
  · rcases List.mem_append.mp hr with z | z
    · exact k3 r z
    · rw [List.mem_singleton.mp z]
      exact ⟨hk, hf, ht, Nat.mod_lt _ (by omega), by show s / 32 < 32; omega⟩
  · by_cases c : j < rl.length
    · rw [List.getElem?_append_left c] at hj
      rw [pk_un (by omega), pk_un (by omega), pk_un (by omega), pk_un (by omega), pk_un (by omega)]
      exact k4 j r hj
    · have hj0 := (List.getElem?_eq_some_iff.mp hj).1
      have e : j = rl.length := by simp at hj0; omega
      rw [e, List.getElem?_append_right (Nat.le_refl _), Nat.sub_self] at hj
      rw [← Option.some.inj hj, e, pk_us, pk_us, pk_us, pk_us, pk_us]
      exact ⟨rfl, rfl, rfl, rfl, rfl⟩
theorem rc_rule0 {post : Int32 → St2 → Prop} {ru sz li co go re wa fo la : Int32} {a1 a2 a3 a4 a5 a6 a7 a8 a9 a10 a11 a12 a13 : Nat → Int32} {a14 : Nat → Int64} {a15 : Nat → Int32} {a16 : Nat → Int64} {a17 a18 : Nat → Int32} {rl : List rc_R} {W : List Nat} {f t : Nat} (s : Nat) (hf : f < 4) (ht : t < 4) (hs : s < 1024) (hL : rl.length < 5) (hK : rc_K rl W ru sz a1 a2 a3 a4 a5 a6)
    (H : ∀ ru a1 a2 a3 a4 a5, rc_K (rl ++ [(0, f, t, s % 32, s / 32)]) W ru sz a1 a2 a3 a4 a5 a6 → post (nI (rl.length + 1)) (ru, sz, li, co, go, re, wa, fo, la, a1, a2, a3, a4, a5, a6, a7, a8, a9, a10, a11, a12, a13, a14, a15, a16, a17, a18)) : wpX_rule post (ru, sz, li, co, go, re, wa, fo, la, a1, a2, a3, a4, a5, a6, a7, a8, a9, a10, a11, a12, a13, a14, a15, a16, a17, a18) 0 (nI f) (nI t) (nI s) := by
  unfold wpX_rule
  dsimp only
  refine br_f (by decide) ?_
  unfold wX_rule_10
  refine br_f (by decide) ?_
  unfold wX_rule_22
  refine br_f (by decide) (br_f (by decide) (br_f (by decide) (rc_badL hf (br_t rfl ?_))))
  unfold wX_rule_46
  refine br_f (by decide) (rc_badL ht (br_t rfl ?_))
  exact rc_r59 (k := 0) hL hK.1 (by omega) hf ht hs (Or.inr ⟨by decide, rfl⟩) (Or.inr ⟨by decide, rfl⟩) (H _ _ _ _ _ _ (rc_K_add hK hL (by omega) hf ht hs))
theorem rc_rule1 {post : Int32 → St2 → Prop} {ru sz li co go re wa fo la : Int32} {a1 a2 a3 a4 a5 a6 a7 a8 a9 a10 a11 a12 a13 : Nat → Int32} {a14 : Nat → Int64} {a15 : Nat → Int32} {a16 : Nat → Int64} {a17 a18 : Nat → Int32} {rl : List rc_R} {W : List Nat} {f : Nat} {y : Int32} (s : Nat) (hf : f < 4) (hs : s < 1024) (hL : rl.length < 5) (hK : rc_K rl W ru sz a1 a2 a3 a4 a5 a6)
    (H : ∀ ru a1 a2 a3 a4 a5, rc_K (rl ++ [(1, f, 0, s % 32, s / 32)]) W ru sz a1 a2 a3 a4 a5 a6 → post (nI (rl.length + 1)) (ru, sz, li, co, go, re, wa, fo, la, a1, a2, a3, a4, a5, a6, a7, a8, a9, a10, a11, a12, a13, a14, a15, a16, a17, a18)) : wpX_rule post (ru, sz, li, co, go, re, wa, fo, la, a1, a2, a3, a4, a5, a6, a7, a8, a9, a10, a11, a12, a13, a14, a15, a16, a17, a18) 1 (nI f) y (nI s) := by
  unfold wpX_rule
  dsimp only
  refine br_f (by decide) ?_
  unfold wX_rule_10
  refine br_t rfl ?_
  unfold wX_rule_22
  refine br_f (by decide) (br_f (by decide) (br_f (by decide) (rc_badL hf (br_t rfl ?_))))
  unfold wX_rule_46
  refine br_t rfl ?_
  exact rc_r59 (k := 1) (t := 0) hL hK.1 (by omega) hf (by omega) hs (Or.inr ⟨by decide, rfl⟩) (Or.inl ⟨rfl, rfl⟩) (H _ _ _ _ _ _ (rc_K_add hK hL (by omega) hf (by omega) hs))
theorem rc_rule2 {post : Int32 → St2 → Prop} {ru sz li co go re wa fo la : Int32} {a1 a2 a3 a4 a5 a6 a7 a8 a9 a10 a11 a12 a13 : Nat → Int32} {a14 : Nat → Int64} {a15 : Nat → Int32} {a16 : Nat → Int64} {a17 a18 : Nat → Int32} {rl : List rc_R} {W : List Nat} {t : Nat} {x : Int32} (s : Nat) (ht : t < 4) (hs : s < 1024) (hL : rl.length < 5) (hK : rc_K rl W ru sz a1 a2 a3 a4 a5 a6)
    (H : ∀ ru a1 a2 a3 a4 a5, rc_K (rl ++ [(2, 0, t, s % 32, s / 32)]) W ru sz a1 a2 a3 a4 a5 a6 → post (nI (rl.length + 1)) (ru, sz, li, co, go, re, wa, fo, la, a1, a2, a3, a4, a5, a6, a7, a8, a9, a10, a11, a12, a13, a14, a15, a16, a17, a18)) : wpX_rule post (ru, sz, li, co, go, re, wa, fo, la, a1, a2, a3, a4, a5, a6, a7, a8, a9, a10, a11, a12, a13, a14, a15, a16, a17, a18) 2 x (nI t) (nI s) := by
  unfold wpX_rule
  dsimp only
  refine br_t rfl ?_
  unfold wX_rule_10
  refine br_f (by decide) ?_
  unfold wX_rule_22
  refine br_f (by decide) (br_f (by decide) (br_t rfl ?_))
  unfold wX_rule_46
  refine br_f (by decide) (rc_badL ht (br_t rfl ?_))
  exact rc_r59 (k := 2) (f := 0) hL hK.1 (by omega) (by omega) ht hs (Or.inl ⟨rfl, rfl⟩) (Or.inr ⟨by decide, rfl⟩) (H _ _ _ _ _ _ (rc_K_add hK hL (by omega) (by omega) ht hs))
/-- rule(3, 0, 0, 0) -/
theorem rc_rule3 {post : Int32 → St2 → Prop} {ru sz li co go re wa fo la : Int32} {a1 a2 a3 a4 a5 a6 a7 a8 a9 a10 a11 a12 a13 : Nat → Int32} {a14 : Nat → Int64} {a15 : Nat → Int32} {a16 : Nat → Int64} {a17 a18 : Nat → Int32} (H : post (-1) (ru, sz, li, co, go, re, wa, fo, la, a1, a2, a3, a4, a5, a6, a7, a8, a9, a10, a11, a12, a13, a14, a15, a16, a17, a18)) : wpX_rule post (ru, sz, li, co, go, re, wa, fo, la, a1, a2, a3, a4, a5, a6, a7, a8, a9, a10, a11, a12, a13, a14, a15, a16, a17, a18) 3 0 0 0 := by
  unfold wpX_rule
  dsimp only
  refine br_f (by decide) ?_
  unfold wX_rule_10
  refine br_f (by decide) ?_
  unfold wX_rule_22
  exact br_f (by decide) (br_t (by decide) H)
/-- rule(0, 0, 0, 1024) -/
theorem rc_rule4 {post : Int32 → St2 → Prop} {ru sz li co go re wa fo la : Int32} {a1 a2 a3 a4 a5 a6 a7 a8 a9 a10 a11 a12 a13 : Nat → Int32} {a14 : Nat → Int64} {a15 : Nat → Int32} {a16 : Nat → Int64} {a17 a18 : Nat → Int32} (H : post (-1) (ru, sz, li, co, go, re, wa, fo, la, a1, a2, a3, a4, a5, a6, a7, a8, a9, a10, a11, a12, a13, a14, a15, a16, a17, a18)) : wpX_rule post (ru, sz, li, co, go, re, wa, fo, la, a1, a2, a3, a4, a5, a6, a7, a8, a9, a10, a11, a12, a13, a14, a15, a16, a17, a18) 0 0 0 1024 := by
  unfold wpX_rule
  dsimp only
  refine br_f (by decide) ?_
  unfold wX_rule_10
  refine br_f (by decide) ?_
  unfold wX_rule_22
  refine br_f (by decide) (br_f (by decide) (br_f (by decide) (rc_badL (v := 0) (by omega) (br_t rfl ?_))))
  unfold wX_rule_46
  refine br_f (by decide) (rc_badL (v := 0) (by omega) (br_t rfl ?_))
  unfold wX_rule_59
  exact br_f (by decide) (br_f (by decide) H)
/-! copyRule, drop, swap -/
theorem rc_nar {r : rc_R} (hr : rc_Rv r) : vp_nar .byte (nI r.1) = nI r.1 ∧ vp_nar .byte (nI r.2.1) = nI r.2.1 ∧ vp_nar .byte (nI r.2.2.1) = nI r.2.2.1 ∧ vp_nar .byte (nI r.2.2.2.1) = nI r.2.2.2.1 ∧ vp_nar .byte (nI r.2.2.2.2) = nI r.2.2.2.2 := by
  obtain ⟨h1, h2, h3, h4, h5⟩ := hr
  exact ⟨rc_n8 (by omega), rc_n8 (by omega), rc_n8 (by omega), rc_n8 (by omega), rc_n8 (by omega)⟩
theorem rc_copyRule {post : St2 → Prop} {ru sz li co go re wa fo la : Int32} {a1 a2 a3 a4 a5 a6 a7 a8 a9 a10 a11 a12 a13 : Nat → Int32} {a14 : Nat → Int64} {a15 : Nat → Int32} {a16 : Nat → Int64} {a17 a18 : Nat → Int32} {i j : Nat} {r : rc_R} {x y : Int32} (hx : x = nI i) (hy : y = nI j) (hi : i < 5) (hj : j < 5) (hr : rc_Rv r) (h : a1 i = nI r.1 ∧ a2 i = nI r.2.1 ∧ a3 i = nI r.2.2.1 ∧ a4 i = nI r.2.2.2.1 ∧ a5 i = nI r.2.2.2.2)
    (H : post (ru, sz, li, co, go, re, wa, fo, la, (upd a1 j (nI r.1)), (upd a2 j (nI r.2.1)), (upd a3 j (nI r.2.2.1)), (upd a4 j (nI r.2.2.2.1)), (upd a5 j (nI r.2.2.2.2)), a6, a7, a8, a9, a10, a11, a12, a13, a14, a15, a16, a17, a18)) : wpX_copyRule post (ru, sz, li, co, go, re, wa, fo, la, a1, a2, a3, a4, a5, a6, a7, a8, a9, a10, a11, a12, a13, a14, a15, a16, a17, a18) x y := by
  subst hx hy
  obtain ⟨h1, h2, h3, h4, h5⟩ := h
  obtain ⟨n1, n2, n3, n4, n5⟩ := rc_nar hr
  unfold wpX_copyRule
  dsimp only
  rw [nI_clamp (show i < 2 ^ 31 by omega), nI_clamp (show j < 2 ^ 31 by omega), h1, h2, h3, h4, h5, n1, n2, n3, n4, n5]
  exact ⟨pk_in i 5 hi, pk_in j 5 hj, nm_e ⟨pk_in i 5 hi, pk_in j 5 hj, nm_e ⟨pk_in i 5 hi, pk_in j 5 hj, nm_e ⟨pk_in i 5 hi, pk_in j 5 hj, nm_e ⟨pk_in i 5 hi, pk_in j 5 hj, nm_e H⟩⟩⟩⟩⟩
theorem rc_drop0 {post : Int32 → St2 → Prop} {ru sz li co go re wa fo la : Int32} {a1 a2 a3 a4 a5 a6 a7 a8 a9 a10 a11 a12 a13 : Nat → Int32} {a14 : Nat → Int64} {a15 : Nat → Int32} {a16 : Nat → Int64} {a17 a18 : Nat → Int32} {x y : rc_R} {W : List Nat} (hK : rc_K [x, y] W ru sz a1 a2 a3 a4 a5 a6)
    (H : ∀ ru a1 a2 a3 a4 a5, rc_K [y] W ru sz a1 a2 a3 a4 a5 a6 → post 1 (ru, sz, li, co, go, re, wa, fo, la, a1, a2, a3, a4, a5, a6, a7, a8, a9, a10, a11, a12, a13, a14, a15, a16, a17, a18)) : wpX_drop post (ru, sz, li, co, go, re, wa, fo, la, a1, a2, a3, a4, a5, a6, a7, a8, a9, a10, a11, a12, a13, a14, a15, a16, a17, a18) 0 := by
  obtain ⟨k1, k2, k3, k4, k5, k6, k7⟩ := hK
  have k1' : ru = nI 2 := k1
  subst k1'
  unfold wpX_drop
  dsimp only
  refine br_f (by decide) (br_t (by decide) (nm_r (e' := nI 1) (by decide) ⟨2, ?_⟩))
  refine pk_le 1 0 (fun z => absurd z (by omega)) (fun _ => ?_)
  refine rc_copyRule (i := 1) (j := 0) (by decide) rfl (by omega) (by omega) (k3 y (by simp)) (k4 1 y rfl) (nm_r (nI_1 0) ?_)
  refine pk_le 1 1 (fun _ => ?_) (fun z => absurd z (by omega))
  refine H _ _ _ _ _ _ ⟨rfl, Nat.le_of_ble_eq_true rfl, fun r hr => k3 r (by rw [List.mem_singleton.mp hr]; simp), fun j r hj => ?_, k5, k6, k7⟩
  match j with
  | 0 => rw [← Option.some.inj hj]; exact ⟨pk_us, pk_us, pk_us, pk_us, pk_us⟩
  | j + 1 => exact absurd hj (by simp)
theorem rc_drop1 {post : Int32 → St2 → Prop} {ru sz li co go re wa fo la : Int32} {a1 a2 a3 a4 a5 a6 a7 a8 a9 a10 a11 a12 a13 : Nat → Int32} {a14 : Nat → Int64} {a15 : Nat → Int32} {a16 : Nat → Int64} {a17 a18 : Nat → Int32} {x y : rc_R} {W : List Nat} (hK : rc_K [x, y] W ru sz a1 a2 a3 a4 a5 a6)
    (H : ∀ ru a1 a2 a3 a4 a5, rc_K [x] W ru sz a1 a2 a3 a4 a5 a6 → post 1 (ru, sz, li, co, go, re, wa, fo, la, a1, a2, a3, a4, a5, a6, a7, a8, a9, a10, a11, a12, a13, a14, a15, a16, a17, a18)) : wpX_drop post (ru, sz, li, co, go, re, wa, fo, la, a1, a2, a3, a4, a5, a6, a7, a8, a9, a10, a11, a12, a13, a14, a15, a16, a17, a18) 1 := by
  obtain ⟨k1, k2, k3, k4, k5, k6, k7⟩ := hK
  have k1' : ru = nI 2 := k1
  subst k1'
  unfold wpX_drop
  dsimp only
  refine br_f (by decide) (br_t (by decide) (nm_r (e' := nI 1) (by decide) ⟨1, ?_⟩))
  refine pk_le 1 1 (fun _ => ?_) (fun z => absurd z (by omega))
  refine H _ _ _ _ _ _ ⟨rfl, Nat.le_of_ble_eq_true rfl, fun r hr => k3 r (by rw [List.mem_singleton.mp hr]; simp), fun j r hj => ?_, k5, k6, k7⟩
  match j with
  | 0 => exact k4 0 r hj
  | j + 1 => exact absurd hj (by simp)
theorem rc_swap0 {post : Int32 → St2 → Prop} {ru sz li co go re wa fo la : Int32} {a1 a2 a3 a4 a5 a6 a7 a8 a9 a10 a11 a12 a13 : Nat → Int32} {a14 : Nat → Int64} {a15 : Nat → Int32} {a16 : Nat → Int64} {a17 a18 : Nat → Int32} {x y : rc_R} {W : List Nat} (hK : rc_K [x, y] W ru sz a1 a2 a3 a4 a5 a6)
    (H : ∀ ru a1 a2 a3 a4 a5, rc_K [y, x] W ru sz a1 a2 a3 a4 a5 a6 → post 0 (ru, sz, li, co, go, re, wa, fo, la, a1, a2, a3, a4, a5, a6, a7, a8, a9, a10, a11, a12, a13, a14, a15, a16, a17, a18)) : wpX_swap post (ru, sz, li, co, go, re, wa, fo, la, a1, a2, a3, a4, a5, a6, a7, a8, a9, a10, a11, a12, a13, a14, a15, a16, a17, a18) 0 := by
  obtain ⟨k1, k2, k3, k4, k5, k6, k7⟩ := hK
  have k1' : ru = nI 2 := k1
  subst k1'
  obtain ⟨h1, h2, h3, h4, h5⟩ := k4 0 x rfl
  obtain ⟨n1, n2, n3, n4, n5⟩ := rc_nar (k3 x (by simp))
  have p0 : vp_in 0 5 := pk_in 0 5 (by omega)
  have p1 : vp_in (0 + 1) 5 := pk_in 1 5 (by omega)
  have c0 : (0 : Int32).toNatClampNeg = 0 := by decide
  have c1 : ((0 : Int32) + 1).toNatClampNeg = 1 := by decide
  unfold wpX_swap
  dsimp only
  rw [c0, h1, h2, h3, h4, h5]
  refine br_f (by decide) (br_t (by decide) ⟨p0, nm_e ⟨p0, nm_e ⟨p0, nm_e ⟨p0, nm_e ⟨p0, nm_e ?_⟩⟩⟩⟩⟩)
  refine rc_copyRule (i := 1) (j := 0) (by decide) rfl (by omega) (by omega) (k3 y (by simp)) (k4 1 y rfl) ?_
  dsimp only
  rw [c1, n1, n2, n3, n4, n5]
  refine ⟨p1, nm_e ⟨p1, nm_e ⟨p1, nm_e ⟨p1, nm_e ⟨p1, nm_e ?_⟩⟩⟩⟩⟩
  refine H _ _ _ _ _ _ ⟨rfl, Nat.le_of_ble_eq_true rfl, fun r hr => k3 r ?_, fun j r hj => ?_, k5, k6, k7⟩
  · simp only [List.mem_cons, List.not_mem_nil, or_false] at hr ⊢
    exact hr.symm
  · match j with
    | 0 =>
      rw [← Option.some.inj hj]
      have u : ∀ (a : Nat → Int32) (p q : Int32), upd (upd a 0 p) 1 q 0 = p := fun a p q => (pk_un (by omega)).trans pk_us
      exact ⟨u _ _ _, u _ _ _, u _ _ _, u _ _ _, u _ _ _⟩
    | 1 => rw [← Option.some.inj hj]; exact ⟨pk_us, pk_us, pk_us, pk_us, pk_us⟩
    | j + 2 => exact absurd hj (by simp)
end
section
/-! what one rule makes of a word -/
def rc_1 (r : rc_R) (u : List Nat) : List Nat := (rc_pass r (4, 5, 0) u true).2
theorem rc_m0 : rc_Mv (4, 5, 0) := ⟨by decide, Or.inr rfl, by decide⟩
theorem rc_1_len {r : rc_R} {u : List Nat} (hu : ∀ y, y ∈ u → y < 4) : (rc_1 r u).length ≤ 12 := by
  have k := rc_pass_v (r := r) (last := true) rc_m0 (fun y hy => Nat.lt_succ_of_lt (hu y hy))
  exact Nat.le_trans k.2 k.1.2.2
theorem rc_1_l {r : rc_R} {u : List Nat} (hr : rc_Rv r) (hu : ∀ y, y ∈ u → y < 4) : ∀ y, y ∈ rc_1 r u → y < 4 := rc_pass_l hr rc_m0 (fun y hy => Nat.lt_succ_of_lt (hu y hy))
theorem rc_F0 {u : List Nat} (h : u.length ≤ 12) : rc_F [] u = u := List.take_of_length_le h
theorem rc_F1 {r : rc_R} {u : List Nat} (hu : ∀ y, y ∈ u → y < 4) : rc_F [r] u = rc_1 r u := List.take_of_length_le (rc_1_len hu)
theorem rc_F2 {r s : rc_R} {u : List Nat} (hr : rc_Rv r) (hu : ∀ y, y ∈ u → y < 4) : rc_F [r, s] u = rc_1 s (rc_1 r u) := List.take_of_length_le (rc_1_len (rc_1_l hr hu))
/-! change, delete -/
def rc_sub (r : rc_R) (b h y : Nat) : List Nat := if h = r.2.1 ∧ rc_hit r b y = true then (if r.1 = 0 then [r.2.2.1] else []) else [h]
def rc_cd (r : rc_R) : Nat → Nat → List Nat → List Nat
  | b, h, [] => rc_sub r b h 4
  | b, h, y :: ys => rc_sub r b h y ++ rc_cd r h y ys
theorem rc_sb_len (r : rc_R) (b h y : Nat) : (rc_sub r b h y).length ≤ 1 := by
  unfold rc_sub
  split
  · split <;> simp
  · simp
theorem rc_meet_cd {r : rc_R} (hk : r.1 ≠ 2) {b h d y : Nat} {o : List Nat} (h5 : h ≠ 5) (hd : d < 12) : rc_meet r (b, h, d) y o = ((h, (if y = 4 then 5 else y), d + (rc_sub r b h y).length), o ++ rc_sub r b h y) := by
  have e : ∀ l, rc_ho l (d, o) = (d + 1, o ++ [l]) := fun l => if_pos hd
  unfold rc_meet rc_mo rc_mb rc_mh rc_sub
  dsimp only
  rw [if_neg hk, if_neg hk, if_neg hk, if_neg h5, if_neg h5]
  by_cases c : h = r.2.1 ∧ rc_hit r b y = true
  · rw [if_pos c, if_pos c]
    by_cases c2 : r.1 = 0
    · rw [if_pos c2, if_pos c2, e]; rfl
    · rw [if_neg c2, if_neg c2, List.append_nil]; rfl
  · rw [if_neg c, if_neg c, e]; rfl
theorem rc_cd_ok {r : rc_R} (hk : r.1 ≠ 2) (ls : List Nat) : ∀ (b h d : Nat) (o : List Nat), h ≠ 5 → d + ls.length < 12 → (∀ y, y ∈ ls → y < 4) → (rc_fin r (b, h, d) ls o true).2 = o ++ rc_cd r b h ls := by
  induction ls with
  | nil =>
    intro b h d o h5 hd _
    show (rc_meet r (b, h, d) 4 o).2 = _
    rw [rc_meet_cd hk h5 (by simpa using hd)]
    rfl
  | cons y ys ih =>
    intro b h d o h5 hd hl
    rw [List.length_cons] at hd
    have hy : y < 4 := hl y (by simp)
    have hs := rc_sb_len r b h y
    show (rc_fin r (rc_meet r (b, h, d) y o).1 ys (rc_meet r (b, h, d) y o).2 true).2 = _
    rw [rc_meet_cd hk h5 (by omega), if_neg (by omega)]
    dsimp only
    rw [ih h y _ _ (by omega) (by omega) (fun z hz => hl z (by simp [hz])), List.append_assoc]
    rfl
theorem rc_1_nil {r : rc_R} (hk : r.1 ≠ 2) : rc_1 r [] = [] := by
  show (rc_mo r (4, 5, 0) 4 (0, [])).2 = []
  unfold rc_mo
  rw [if_neg hk, if_pos rfl]
theorem rc_1_cons {r : rc_R} (hk : r.1 ≠ 2) {y : Nat} {ys : List Nat} (hl : ys.length < 12) (h : ∀ z, z ∈ y :: ys → z < 4) : rc_1 r (y :: ys) = rc_cd r 4 y ys := by
  have hy : y < 4 := h y (by simp)
  show (rc_fin r (rc_meet r (4, 5, 0) y []).1 ys (rc_meet r (4, 5, 0) y []).2 true).2 = _
  have e : rc_meet r (4, 5, 0) y [] = ((4, y, 0), []) := by
    unfold rc_meet rc_mo rc_mb rc_mh
    rw [if_neg hk, if_neg hk, if_neg hk, if_pos rfl, if_pos rfl, if_neg (by omega)]
  rw [e]
  dsimp only
  rw [rc_cd_ok hk ys 4 y 0 [] (by omega) (by omega) (fun z hz => h z (by simp [hz]))]
  rfl
/-! insert -/
def rc_ix (r : rc_R) (b y : Nat) : List Nat := if rc_hit r b y = true then [r.2.2.1] else []
def rc_is (r : rc_R) : Nat → List Nat → List Nat
  | b, [] => rc_ix r b 4
  | b, y :: ys => rc_ix r b y ++ y :: rc_is r y ys
theorem rc_ix_len (r : rc_R) (b y : Nat) : (rc_ix r b y).length ≤ 1 := by
  unfold rc_ix
  split <;> simp
theorem rc_ix_ho {r : rc_R} {b y d : Nat} {o : List Nat} (hd : d < 12) : (if rc_hit r b y = true then rc_ho r.2.2.1 (d, o) else (d, o)) = (d + (rc_ix r b y).length, o ++ rc_ix r b y) := by
  unfold rc_ix rc_ho
  by_cases c : rc_hit r b y = true
  · rw [if_pos c, if_pos c, if_pos hd]; rfl
  · rw [if_neg c, if_neg c, List.append_nil]; rfl
theorem rc_meet_is4 {r : rc_R} (hk : r.1 = 2) {b h d : Nat} {o : List Nat} (hd : d < 12) : (rc_meet r (b, h, d) 4 o).2 = o ++ rc_ix r b 4 := by
  show (rc_mo r (b, h, d) 4 (d, o)).2 = _
  unfold rc_mo
  rw [if_pos hk, if_pos rfl]
  dsimp only
  rw [rc_ix_ho hd]
theorem rc_meet_is {r : rc_R} (hk : r.1 = 2) {b h d y : Nat} {o : List Nat} (hy : y < 4) (hd : d + 1 < 12) : rc_meet r (b, h, d) y o = ((y, h, d + (rc_ix r b y).length + 1), (o ++ rc_ix r b y) ++ [y]) := by
  have hs := rc_ix_len r b y
  unfold rc_meet rc_mo rc_mb rc_mh
  dsimp only
  rw [if_pos hk, if_pos hk, if_pos hk, if_neg (by omega), rc_ix_ho (by omega)]
  unfold rc_ho
  rw [if_pos (by dsimp only; omega)]
theorem rc_is_ok {r : rc_R} (hk : r.1 = 2) (ls : List Nat) : ∀ (b h d : Nat) (o : List Nat), d + 2 * ls.length < 12 → (∀ y, y ∈ ls → y < 4) → (rc_fin r (b, h, d) ls o true).2 = o ++ rc_is r b ls := by
  induction ls with
  | nil =>
    intro b h d o hd _
    exact rc_meet_is4 hk (by simpa using hd)
  | cons y ys ih =>
    intro b h d o hd hl
    rw [List.length_cons] at hd
    have hy : y < 4 := hl y (by simp)
    have hs := rc_ix_len r b y
    show (rc_fin r (rc_meet r (b, h, d) y o).1 ys (rc_meet r (b, h, d) y o).2 true).2 = _
    rw [rc_meet_is hk hy (by omega)]
    dsimp only
    rw [ih y h _ _ (by omega) (fun z hz => hl z (by simp [hz])), List.append_assoc, List.append_assoc]
    rfl
theorem rc_1_is {r : rc_R} (hk : r.1 = 2) {u : List Nat} (hl : u.length ≤ 5) (h : ∀ z, z ∈ u → z < 4) : rc_1 r u = rc_is r 4 u := by
  have e := rc_is_ok hk u 4 5 0 [] (by omega) h
  rw [List.nil_append] at e
  exact e
/-! the rules of the law -/
theorem rc_t31 : ∀ b, b < 5 → Nat.testBit 31 b = true := by decide
theorem rc_t16 : ∀ b, b < 4 → Nat.testBit 16 b = false := by decide
theorem rc_t164 : Nat.testBit 16 4 = true := by decide
/-- a letter changed -/
def rc_f (x y l : Nat) : Nat := if l = x then y else l
theorem rc_hit_all {k f t b y : Nat} (hb : b < 5) (hy : y < 5) : rc_hit (k, f, t, 31, 31) b y = true := by
  show (Nat.testBit 31 b && Nat.testBit 31 y) = true
  rw [rc_t31 b hb, rc_t31 y hy]
  rfl
theorem rc_A_cd {x y : Nat} (ls : List Nat) : ∀ (b h : Nat), b < 5 → (∀ z, z ∈ h :: ls → z < 4) → rc_cd (0, x, y, 31, 31) b h ls = (h :: ls).map (rc_f x y) := by
  have key : ∀ b h z, b < 5 → z < 5 → rc_sub (0, x, y, 31, 31) b h z = [rc_f x y h] := by
    intro b h z hb hz
    unfold rc_sub rc_f
    by_cases c : h = x
    · rw [if_pos ⟨c, rc_hit_all hb hz⟩, if_pos rfl, if_pos c]
    · rw [if_neg (fun q => c q.1), if_neg c]
  induction ls with
  | nil => intro b h hb _; exact key b h 4 hb (by omega)
  | cons z zs ih =>
    intro b h hb hl
    have hh : h < 4 := hl h (by simp)
    have hz : z < 4 := hl z (by simp)
    show rc_sub _ b h z ++ rc_cd _ h z zs = _
    rw [key b h z hb (by omega), ih h z (by omega) (fun q hq => hl q (by simp only [List.mem_cons] at hq ⊢; exact Or.inr hq))]
    rfl
theorem rc_A1 {x y : Nat} {u : List Nat} (hl : u.length ≤ 12) (h : ∀ z, z ∈ u → z < 4) : rc_1 (0, x, y, 31, 31) u = u.map (rc_f x y) := by
  cases u with
  | nil => exact rc_1_nil (by intro q; cases q)
  | cons z zs =>
    rw [rc_1_cons (by intro q; cases q) (by simp at hl; omega) h]
    exact rc_A_cd zs 4 z (by omega) h
/-- a letter left out -/
def rc_nx (x : Nat) (u : List Nat) : List Nat := u.filter (fun l => !(l == x))
theorem rc_B_cd {x : Nat} (ls : List Nat) : ∀ (b h : Nat), b < 5 → (∀ z, z ∈ h :: ls → z < 4) → rc_cd (1, x, 0, 31, 31) b h ls = rc_nx x (h :: ls) := by
  have key : ∀ b h z zs, b < 5 → z < 5 → rc_sub (1, x, 0, 31, 31) b h z ++ rc_nx x zs = rc_nx x (h :: zs) := by
    intro b h z zs hb hz
    unfold rc_sub rc_nx
    by_cases c : h = x
    · rw [if_pos ⟨c, rc_hit_all hb hz⟩, if_neg (by show ¬ (1 = 0); omega), List.filter_cons_of_neg (by simp [c])]
      rfl
    · rw [if_neg (fun q => c q.1), List.filter_cons_of_pos (by simp [c])]
      rfl
  induction ls with
  | nil =>
    intro b h hb _
    have k := key b h 4 [] hb (by omega)
    rw [show rc_nx x [] = [] by rfl, List.append_nil] at k
    exact k
  | cons z zs ih =>
    intro b h hb hl
    have hh : h < 4 := hl h (by simp)
    have hz : z < 4 := hl z (by simp)
    show rc_sub _ b h z ++ rc_cd _ h z zs = _
    rw [ih h z (by omega) (fun q hq => hl q (by simp only [List.mem_cons] at hq ⊢; exact Or.inr hq))]
    exact key b h z (z :: zs) hb (by omega)
theorem rc_B1 {x : Nat} {u : List Nat} (hl : u.length ≤ 12) (h : ∀ z, z ∈ u → z < 4) : rc_1 (1, x, 0, 31, 31) u = rc_nx x u := by
  cases u with
  | nil => exact rc_1_nil (by intro q; cases q)
  | cons z zs =>
    rw [rc_1_cons (by intro q; cases q) (by simp at hl; omega) h]
    exact rc_B_cd zs 4 z (by omega) h
/-- a letter before each, and at the end -/
def rc_it (x : Nat) : List Nat → List Nat
  | [] => [x]
  | y :: ys => x :: y :: rc_it x ys
theorem rc_C_is {x : Nat} (u : List Nat) : ∀ b, b < 5 → (∀ z, z ∈ u → z < 4) → rc_is (2, 0, x, 31, 31) b u = rc_it x u := by
  induction u with
  | nil =>
    intro b hb _
    show rc_ix _ b 4 = [x]
    unfold rc_ix
    rw [if_pos (rc_hit_all hb (by omega))]
  | cons y ys ih =>
    intro b hb h
    have hy : y < 4 := h y (by simp)
    show rc_ix _ b y ++ y :: rc_is _ y ys = x :: y :: rc_it x ys
    rw [ih y (by omega) (fun z hz => h z (by simp [hz]))]
    unfold rc_ix
    rw [if_pos (rc_hit_all hb (by omega))]
    rfl
theorem rc_C1 {x : Nat} {u : List Nat} (hl : u.length ≤ 5) (h : ∀ z, z ∈ u → z < 4) : rc_1 (2, 0, x, 31, 31) u = rc_it x u := by
  rw [rc_1_is rfl hl h]
  exact rc_C_is u 4 (by omega) h
theorem rc_hit_e {k f t b y : Nat} (hy : y < 4) : rc_hit (k, f, t, 31, 16) b y = false := by
  show (Nat.testBit 31 b && Nat.testBit 16 y) = false
  rw [rc_t16 y hy, Bool.and_false]
theorem rc_hit_e4 {k f t b : Nat} (hb : b < 5) : rc_hit (k, f, t, 31, 16) b 4 = true := by
  show (Nat.testBit 31 b && Nat.testBit 16 4) = true
  rw [rc_t31 b hb, rc_t164]
  rfl
theorem rc_D_is {x : Nat} (u : List Nat) : ∀ b, b < 5 → (∀ z, z ∈ u → z < 4) → rc_is (2, 0, x, 31, 16) b u = u ++ [x] := by
  induction u with
  | nil =>
    intro b hb _
    show rc_ix _ b 4 = [x]
    unfold rc_ix
    rw [if_pos (rc_hit_e4 hb)]
  | cons y ys ih =>
    intro b hb h
    have hy : y < 4 := h y (by simp)
    show rc_ix _ b y ++ y :: rc_is _ y ys = y :: (ys ++ [x])
    rw [ih y (by omega) (fun z hz => h z (by simp [hz]))]
    unfold rc_ix
    rw [if_neg (by rw [rc_hit_e hy]; decide)]
    rfl
theorem rc_D1 {x : Nat} {u : List Nat} (hl : u.length ≤ 5) (h : ∀ z, z ∈ u → z < 4) : rc_1 (2, 0, x, 31, 16) u = u ++ [x] := by
  rw [rc_1_is rfl hl h]
  exact rc_D_is u 4 (by omega) h
/-- the last letter alone -/
theorem rc_last_cd {k x t : Nat} {e : Nat} (u : List Nat) : ∀ (b h : Nat) (ls : List Nat), b < 5 → h :: ls = u ++ [e] → (∀ z, z ∈ h :: ls → z < 4) → rc_cd (k, x, t, 31, 16) b h ls = u ++ (if e = x then (if k = 0 then [t] else []) else [e]) := by
  induction u with
  | nil =>
    intro b h ls hb he hl
    rw [List.nil_append] at he
    obtain ⟨e1, e2⟩ := List.cons.inj he
    rw [e1, e2, List.nil_append]
    show rc_sub _ b e 4 = _
    unfold rc_sub
    by_cases c : e = x
    · rw [if_pos ⟨c, rc_hit_e4 hb⟩, if_pos c]
    · rw [if_neg (fun q => c q.1), if_neg c]
  | cons a u ih =>
    intro b h ls hb he hl
    obtain ⟨e1, e2⟩ := List.cons.inj he
    cases ls with
    | nil => exact absurd e2.symm (by simp)
    | cons z zs =>
      have hh : h < 4 := hl h (by simp)
      have hz : z < 4 := hl z (by simp)
      show rc_sub _ b h z ++ rc_cd _ h z zs = _
      rw [ih h z zs (by omega) e2 (fun q hq => hl q (by simp only [List.mem_cons] at hq ⊢; exact Or.inr hq))]
      unfold rc_sub
      rw [if_neg (fun q => by rw [rc_hit_e hz] at q; exact absurd q.2 (by decide)), e1]
      rfl
theorem rc_last1 {k x t e : Nat} {u : List Nat} (hk : k ≠ 2) (hl : u.length < 12) (h : ∀ z, z ∈ u ++ [e] → z < 4) : rc_1 (k, x, t, 31, 16) (u ++ [e]) = u ++ (if e = x then (if k = 0 then [t] else []) else [e]) := by
  cases q : u ++ [e] with
  | nil => exact absurd q (by simp)
  | cons z zs =>
    have hlen : (z :: zs).length = u.length + 1 := by rw [← q]; simp
    rw [q] at h
    rw [rc_1_cons hk (by simp at hlen; omega) h]
    exact rc_last_cd u 4 z zs (by omega) q.symm h
theorem rc_E1 {x : Nat} {u : List Nat} (hx : x < 4) (hl : u.length < 12) (h : ∀ z, z ∈ u → z < 4) : rc_1 (1, x, 0, 31, 16) (u ++ [x]) = u := by
  rw [rc_last1 (by decide) hl (fun z hz => by rcases List.mem_append.mp hz with q | q; exact h z q; rw [List.mem_singleton.mp q]; exact hx), if_pos rfl, if_neg (by decide), List.append_nil]
theorem rc_G1 {x z : Nat} {u : List Nat} {e : Nat} (hl : u.length < 12) (h : ∀ q, q ∈ u ++ [e] → q < 4) : rc_1 (0, x, z, 31, 16) (u ++ [e]) = u ++ [rc_f x z e] := by
  rw [rc_last1 (by decide) hl h, if_pos rfl]
  unfold rc_f
  by_cases c : e = x
  · rw [if_pos c, if_pos c]
  · rw [if_neg c, if_neg c]
/-- the first letter alone -/
theorem rc_H_cd {x y : Nat} (ls : List Nat) : ∀ (b h : Nat), b < 4 → (∀ z, z ∈ h :: ls → z < 4) → rc_cd (0, x, y, 16, 31) b h ls = h :: ls := by
  have key : ∀ b h z, b < 4 → rc_sub (0, x, y, 16, 31) b h z = [h] := by
    intro b h z hb
    unfold rc_sub
    refine if_neg (fun q => ?_)
    have q2 : (Nat.testBit 16 b && Nat.testBit 31 z) = true := q.2
    rw [rc_t16 b hb, Bool.false_and] at q2
    exact absurd q2 (by decide)
  induction ls with
  | nil => intro b h hb _; exact key b h 4 hb
  | cons z zs ih =>
    intro b h hb hl
    have hh : h < 4 := hl h (by simp)
    show rc_sub _ b h z ++ rc_cd _ h z zs = _
    rw [key b h z hb, ih h z hh (fun q hq => hl q (by simp only [List.mem_cons] at hq ⊢; exact Or.inr hq))]
    rfl
theorem rc_H1 {x y h : Nat} {ls : List Nat} (hl : ls.length < 12) (hh : ∀ z, z ∈ h :: ls → z < 4) : rc_1 (0, x, y, 16, 31) (h :: ls) = rc_f x y h :: ls := by
  rw [rc_1_cons (by intro q; cases q) hl hh]
  have key : ∀ z, z < 5 → rc_sub (0, x, y, 16, 31) 4 h z = [rc_f x y h] := by
    intro z hz
    unfold rc_sub rc_f
    have q : rc_hit (0, x, y, 16, 31) 4 z = true := by
      show (Nat.testBit 16 4 && Nat.testBit 31 z) = true
      rw [rc_t164, rc_t31 z hz]
      rfl
    by_cases c : h = x
    · rw [if_pos ⟨c, q⟩, if_pos rfl, if_pos c]
    · rw [if_neg (fun q => c q.1), if_neg c]
  cases ls with
  | nil => exact key 4 (by omega)
  | cons z zs =>
    have h0 : h < 4 := hh h (by simp)
    have hz : z < 4 := hh z (by simp)
    show rc_sub _ 4 h z ++ rc_cd _ h z zs = _
    rw [key z (by omega), rc_H_cd zs h z h0 (fun q hq => hh q (by simp only [List.mem_cons] at hq ⊢; exact Or.inr hq))]
    rfl
end
section
/-! counting words -/
theorem rc_words_nodup (n : Nat) : (rc_words n).Nodup := by
  rw [rc_words_dig]
  unfold List.Nodup
  rw [List.pairwise_map]
  refine List.Pairwise.imp_of_mem (fun {a b} ha hb hab e => hab ?_) (List.nodup_range (n := 4 ^ n))
  have h := congrArg rc_code e
  rw [rc_code_dig n a (List.mem_range.mp ha), rc_code_dig n b (List.mem_range.mp hb)] at h
  omega
/-- what images answers -/
def rc_im (rl : List rc_R) (n c : Nat) : Prop := ∃ Ls : List (List Nat), Ls.Nodup ∧ (∀ v, v ∈ Ls → ∀ y, y ∈ v → y < 4) ∧ (∀ v, v ∈ Ls → ∃ u, u ∈ rc_words n ∧ rc_F rl u = v) ∧ (∀ u, u ∈ rc_words n → rc_F rl u ∈ Ls) ∧ Ls.length = c
theorem rc_im_fix {rl : List rc_R} {n : Nat} (p : List Nat → Bool) (h1 : ∀ u, u ∈ rc_words n → rc_F rl u ∈ rc_words n ∧ p (rc_F rl u) = true) (h2 : ∀ v, v ∈ rc_words n → p v = true → rc_F rl v = v) : rc_im rl n ((rc_words n).countP p) := by
  refine ⟨(rc_words n).filter p, List.Pairwise.filter p (rc_words_nodup n), fun v hv => ?_, fun v hv => ?_, fun u hu => ?_, ?_⟩
  · exact (rc_mem_words.mp (List.mem_filter.mp hv).1).2
  · obtain ⟨k1, k2⟩ := List.mem_filter.mp hv
    exact ⟨v, k1, h2 v k1 k2⟩
  · exact List.mem_filter.mpr (h1 u hu)
  · rw [List.countP_eq_length_filter]
theorem rc_still_p {rl : List rc_R} {n : Nat} (p : List Nat → Bool) (h : ∀ v, v ∈ rc_words n → (rc_F rl v = v ↔ p v = true)) : (rc_words n).countP (fun u => decide (rc_F rl u = u)) = (rc_words n).countP p := by
  refine List.countP_congr (fun u hu => ?_)
  rw [decide_eq_true_iff]
  exact h u hu
def rc_no (x : Nat) (u : List Nat) : Bool := u.all (fun l => !(l == x))
theorem rc_no_iff {x : Nat} {u : List Nat} : rc_no x u = true ↔ ∀ l, l ∈ u → l ≠ x := by
  unfold rc_no
  simp
theorem rc_c1 : ∀ n, n < 6 → ∀ x, x < 4 → (rc_words n).countP (rc_no x) = 3 ^ n := by decide +kernel
theorem rc_w5 {n : Nat} {u : List Nat} (hn : n ≤ 5) (h : u ∈ rc_words n) : u.length ≤ 5 ∧ ∀ y, y ∈ u → y < 4 := by
  obtain ⟨h1, h2⟩ := rc_mem_words.mp h
  exact ⟨by omega, h2⟩
/-! kind 0 -/
theorem rc_f_l {x y l : Nat} (hy : y < 4) (hl : l < 4) : rc_f x y l < 4 := by
  unfold rc_f
  split
  · exact hy
  · exact hl
theorem rc_f_fix {x y : Nat} (hxy : x ≠ y) (u : List Nat) : u.map (rc_f x y) = u ↔ rc_no x u = true := by
  rw [rc_no_iff]
  induction u with
  | nil => simp
  | cons h ls ih =>
    rw [List.map_cons]
    constructor
    · intro e l hl
      obtain ⟨e1, e2⟩ := List.cons.inj e
      rcases List.mem_cons.mp hl with z | z
      · intro c
        unfold rc_f at e1
        rw [if_pos (by omega)] at e1
        omega
      · exact ih.mp e2 l z
    · intro k
      have e1 : rc_f x y h = h := if_neg (k h (by simp))
      rw [e1, ih.mpr (fun l hl => k l (by simp [hl]))]
theorem rc_f_no {x y : Nat} (hxy : x ≠ y) (u : List Nat) : rc_no x (u.map (rc_f x y)) = true := by
  rw [rc_no_iff]
  intro l hl
  obtain ⟨a, _, e⟩ := List.mem_map.mp hl
  rw [← e]
  unfold rc_f
  split
  · omega
  · assumption
theorem rc_ch0 {x y : Nat} (hx : x < 4) (hy : y < 4) : rc_Rv (0, x, y, 31, 31) := ⟨show 0 < 3 by decide, hx, hy, show 31 < 32 by decide, show 31 < 32 by decide⟩
theorem rc_map_l {x y : Nat} {u : List Nat} (hy : y < 4) (h : ∀ z, z ∈ u → z < 4) : ∀ z, z ∈ u.map (rc_f x y) → z < 4 := by
  intro z hz
  obtain ⟨a, ha, e⟩ := List.mem_map.mp hz
  rw [← e]
  exact rc_f_l hy (h a ha)
theorem rc_k0_F {x y : Nat} {u : List Nat} (hl : u.length ≤ 12) (h : ∀ z, z ∈ u → z < 4) : rc_F [(0, x, y, 31, 31)] u = u.map (rc_f x y) := by
  rw [rc_F1 h, rc_A1 hl h]
theorem rc_k0_FF {x y a b : Nat} {u : List Nat} (hx : x < 4) (hy : y < 4) (hl : u.length ≤ 12) (h : ∀ z, z ∈ u → z < 4) : rc_F [(0, x, y, 31, 31), (0, a, b, 31, 31)] u = (u.map (rc_f x y)).map (rc_f a b) := by
  rw [rc_F2 (rc_ch0 hx hy) h, rc_A1 hl h, rc_A1 (by rw [List.length_map]; exact hl) (rc_map_l hy h)]
theorem rc_k0_still {x y n : Nat} (hx : x < 4) (hxy : x ≠ y) (hn : n ≤ 5) : (rc_words n).countP (fun u => decide (rc_F [(0, x, y, 31, 31)] u = u)) = 3 ^ n := by
  rw [rc_still_p (rc_no x) (fun v hv => ?_), rc_c1 n (by omega) x hx]
  obtain ⟨h1, h2⟩ := rc_w5 hn hv
  rw [rc_k0_F (by omega) h2]
  exact rc_f_fix hxy v
theorem rc_k0_im {x y n : Nat} (hx : x < 4) (hy : y < 4) (hxy : x ≠ y) (hn : n ≤ 5) : rc_im [(0, x, y, 31, 31)] n (3 ^ n) := by
  rw [← rc_c1 n (by omega) x hx]
  refine rc_im_fix (rc_no x) (fun u hu => ?_) (fun v hv hp => ?_)
  · obtain ⟨h1, h2⟩ := rc_w5 hn hu
    rw [rc_k0_F (by omega) h2]
    exact ⟨rc_mem_words.mpr ⟨by rw [List.length_map]; exact (rc_mem_words.mp hu).1, rc_map_l hy h2⟩, rc_f_no hxy u⟩
  · obtain ⟨h1, h2⟩ := rc_w5 hn hv
    rw [rc_k0_F (by omega) h2]
    exact (rc_f_fix hxy v).mpr hp
theorem rc_k0_same {x y : Nat} {u : List Nat} (hx : x < 4) (hy : y < 4) (hxy : x ≠ y) (hl : u.length ≤ 12) (h : ∀ z, z ∈ u → z < 4) : rc_F [(0, x, y, 31, 31), (0, x, y, 31, 31)] u = rc_F [(0, x, y, 31, 31)] u := by
  rw [rc_k0_FF hx hy hl h, rc_k0_F hl h]
  exact (rc_f_fix hxy _).mpr (rc_f_no hxy u)
/-- x to y, then y to x: as y to x -/
theorem rc_k0_back {x y : Nat} (u : List Nat) : (u.map (rc_f x y)).map (rc_f y x) = u.map (rc_f y x) := by
  rw [List.map_map]
  apply List.map_congr_left
  intro l _
  show rc_f y x (rc_f x y l) = rc_f y x l
  unfold rc_f
  by_cases c : l = x
  · rw [if_pos c, if_pos rfl, c]
    split <;> rfl
  · rw [if_neg c]
theorem rc_k0_im2 {x y n : Nat} (hx : x < 4) (hy : y < 4) (hxy : x ≠ y) (hn : n ≤ 5) : rc_im [(0, x, y, 31, 31), (0, y, x, 31, 31)] n (3 ^ n) := by
  rw [← rc_c1 n (by omega) y hy]
  refine rc_im_fix (rc_no y) (fun u hu => ?_) (fun v hv hp => ?_)
  · obtain ⟨h1, h2⟩ := rc_w5 hn hu
    rw [rc_k0_FF hx hy (by omega) h2, rc_k0_back]
    exact ⟨rc_mem_words.mpr ⟨by rw [List.length_map]; exact (rc_mem_words.mp hu).1, rc_map_l hx h2⟩, rc_f_no hxy.symm u⟩
  · obtain ⟨h1, h2⟩ := rc_w5 hn hv
    rw [rc_k0_FF hx hy (by omega) h2, rc_k0_back]
    exact (rc_f_fix hxy.symm v).mpr hp
theorem rc_k0_still2 {x y n : Nat} (hx : x < 4) (hy : y < 4) (hxy : x ≠ y) (hn : n ≤ 5) : (rc_words n).countP (fun u => decide (rc_F [(0, y, x, 31, 31), (0, x, y, 31, 31)] u = u)) = 3 ^ n := by
  rw [rc_still_p (rc_no x) (fun v hv => ?_), rc_c1 n (by omega) x hx]
  obtain ⟨h1, h2⟩ := rc_w5 hn hv
  rw [rc_k0_FF hy hx (by omega) h2, rc_k0_back]
  exact rc_f_fix hxy v
theorem rc_rep_mem {n x : Nat} (hx : x < 4) : List.replicate n x ∈ rc_words n := rc_mem_words.mpr ⟨List.length_replicate, fun y hy => by rw [(List.mem_replicate.mp hy).2]; exact hx⟩
theorem rc_k0_com {x y n : Nat} (hx : x < 4) (hy : y < 4) (hxy : x ≠ y) (hn : n ≤ 5) : (∀ u, u ∈ rc_words n → rc_F [(0, y, x, 31, 31), (0, x, y, 31, 31)] u = rc_F [(0, x, y, 31, 31), (0, y, x, 31, 31)] u) ↔ n = 0 := by
  constructor
  · intro h
    cases n with
    | zero => rfl
    | succ n =>
      have hm := rc_rep_mem (n := n + 1) hx
      obtain ⟨h1, h2⟩ := rc_w5 hn hm
      have e := h _ hm
      rw [rc_k0_FF hx hy (by omega) h2, rc_k0_FF hy hx (by omega) h2, rc_k0_back, rc_k0_back, List.replicate_succ, List.map_cons, List.map_cons] at e
      have e1 := (List.cons.inj e).1
      unfold rc_f at e1
      rw [if_pos rfl, if_neg hxy] at e1
      exact absurd e1.symm hxy
  · intro h u hu
    subst h
    have e : u = [] := List.length_eq_zero_iff.mp (rc_mem_words.mp hu).1
    rw [e, rc_k0_FF hx hy (by decide) (by simp), rc_k0_FF hy hx (by decide) (by simp)]
    rfl
/-! the words that become W, in order -/
def rc_pr (x y : Nat) (W : List Nat) : List (List Nat) := (rc_words W.length).filter (fun u => decide (u.map (rc_f x y) = W))
theorem rc_pr_block {x y l c k : Nat} {W : List Nat} : ((rc_words k).map (fun u => l :: u)).filter (fun u => decide (u.map (rc_f x y) = c :: W)) = if rc_f x y l = c then ((rc_words k).filter (fun u => decide (u.map (rc_f x y) = W))).map (fun u => l :: u) else [] := by
  rw [List.filter_map]
  by_cases h : rc_f x y l = c
  · rw [if_pos h]
    congr 1
    refine List.filter_congr (fun u _ => ?_)
    show decide (rc_f x y l :: u.map (rc_f x y) = c :: W) = _
    rw [h]
    simp
  · rw [if_neg h]
    have e : (List.filter ((fun u => decide (u.map (rc_f x y) = c :: W)) ∘ fun u => l :: u) (rc_words k)) = [] := by
      rw [List.filter_eq_nil_iff]
      intro u _ q
      have q' : rc_f x y l :: u.map (rc_f x y) = c :: W := of_decide_eq_true q
      exact h (List.cons.inj q').1
    rw [e]
    rfl
theorem rc_cat0 {α : Type} (B : Nat → List α) (h : ∀ l, l < 4 → B l = []) : B 0 ++ (B 1 ++ (B 2 ++ B 3)) = [] := by
  rw [h 0 (by omega), h 1 (by omega), h 2 (by omega), h 3 (by omega)]
  rfl
theorem rc_cat1 {α : Type} (B : Nat → List α) {c : Nat} (hc : c < 4) (h : ∀ l, l < 4 → l ≠ c → B l = []) : B 0 ++ (B 1 ++ (B 2 ++ B 3)) = B c := by
  have k : c = 0 ∨ c = 1 ∨ c = 2 ∨ c = 3 := by omega
  rcases k with k | k | k | k <;> subst k
  · rw [h 1 (by omega) (by omega), h 2 (by omega) (by omega), h 3 (by omega) (by omega)]; simp
  · rw [h 0 (by omega) (by omega), h 2 (by omega) (by omega), h 3 (by omega) (by omega)]; simp
  · rw [h 0 (by omega) (by omega), h 1 (by omega) (by omega), h 3 (by omega) (by omega)]; simp
  · rw [h 0 (by omega) (by omega), h 1 (by omega) (by omega), h 2 (by omega) (by omega)]; simp
theorem rc_cat2 {α : Type} (B : Nat → List α) {p q : Nat} (hp : p < q) (hq : q < 4) (h : ∀ l, l < 4 → l ≠ p → l ≠ q → B l = []) : B 0 ++ (B 1 ++ (B 2 ++ B 3)) = B p ++ B q := by
  have k : (p = 0 ∧ q = 1) ∨ (p = 0 ∧ q = 2) ∨ (p = 0 ∧ q = 3) ∨ (p = 1 ∧ q = 2) ∨ (p = 1 ∧ q = 3) ∨ (p = 2 ∧ q = 3) := by omega
  rcases k with ⟨k1, k2⟩ | ⟨k1, k2⟩ | ⟨k1, k2⟩ | ⟨k1, k2⟩ | ⟨k1, k2⟩ | ⟨k1, k2⟩ <;> subst k1 <;> subst k2
  · rw [h 2 (by omega) (by omega) (by omega), h 3 (by omega) (by omega) (by omega)]; simp
  · rw [h 1 (by omega) (by omega) (by omega), h 3 (by omega) (by omega) (by omega)]; simp
  · rw [h 1 (by omega) (by omega) (by omega), h 2 (by omega) (by omega) (by omega)]; simp
  · rw [h 0 (by omega) (by omega) (by omega), h 3 (by omega) (by omega) (by omega)]; simp
  · rw [h 0 (by omega) (by omega) (by omega), h 2 (by omega) (by omega) (by omega)]; simp
  · rw [h 0 (by omega) (by omega) (by omega), h 1 (by omega) (by omega) (by omega)]; simp
theorem rc_pr_cons {x y c : Nat} {W : List Nat} : rc_pr x y (c :: W) = (if rc_f x y 0 = c then (rc_pr x y W).map (fun u => 0 :: u) else []) ++ ((if rc_f x y 1 = c then (rc_pr x y W).map (fun u => 1 :: u) else []) ++ ((if rc_f x y 2 = c then (rc_pr x y W).map (fun u => 2 :: u) else []) ++ (if rc_f x y 3 = c then (rc_pr x y W).map (fun u => 3 :: u) else []))) := by
  show List.filter (fun u => decide (u.map (rc_f x y) = c :: W)) ((rc_words W.length).map (fun u => 0 :: u) ++ ((rc_words W.length).map (fun u => 1 :: u) ++ ((rc_words W.length).map (fun u => 2 :: u) ++ (rc_words W.length).map (fun u => 3 :: u)))) = _
  rw [List.filter_append, List.filter_append, List.filter_append, rc_pr_block, rc_pr_block, rc_pr_block, rc_pr_block]
  rfl
theorem rc_pr_x {x y : Nat} {W : List Nat} (hxy : x ≠ y) (h : x ∈ W) : rc_pr x y W = [] := by
  unfold rc_pr
  rw [List.filter_eq_nil_iff]
  intro u _ q
  have e : u.map (rc_f x y) = W := of_decide_eq_true q
  have k := rc_no_iff.mp (rc_f_no hxy u)
  rw [e] at k
  exact k x h rfl
theorem rc_pr_step {x y c : Nat} {W : List Nat} (hx : x < 4) (hy : y < 4) (hc : c < 4) (hxy : x ≠ y) (hcx : c ≠ x) : rc_pr x y (c :: W) = if c = y then (if x < y then (rc_pr x y W).map (fun u => x :: u) ++ (rc_pr x y W).map (fun u => y :: u) else (rc_pr x y W).map (fun u => y :: u) ++ (rc_pr x y W).map (fun u => x :: u)) else (rc_pr x y W).map (fun u => c :: u) := by
  rw [rc_pr_cons]
  have fx : rc_f x y x = y := if_pos rfl
  have fo : ∀ l, l ≠ x → rc_f x y l = l := fun l h => if_neg h
  by_cases e : c = y
  · rw [if_pos e]
    subst e
    have hB : ∀ l, l < 4 → l ≠ x → l ≠ c → (if rc_f x c l = c then (rc_pr x c W).map (fun u => l :: u) else []) = [] := by
      intro l _ h1 h2
      rw [fo l h1, if_neg h2]
    by_cases q : x < c
    · rw [if_pos q, rc_cat2 (fun l => if rc_f x c l = c then (rc_pr x c W).map (fun u => l :: u) else []) q hc hB, if_pos fx, if_pos (fo c hcx)]
    · rw [if_neg q, rc_cat2 (fun l => if rc_f x c l = c then (rc_pr x c W).map (fun u => l :: u) else []) (show c < x by omega) hx (fun l h1 h2 h3 => hB l h1 h3 h2), if_pos fx, if_pos (fo c hcx)]
  · rw [if_neg e, rc_cat1 (fun l => if rc_f x y l = c then (rc_pr x y W).map (fun u => l :: u) else []) hc (fun l h1 h2 => ?_), if_pos (fo c hcx)]
    by_cases q : l = x
    · rw [q, fx, if_neg (fun z => e z.symm)]
    · rw [fo l q, if_neg h2]
theorem rc_pr_all {x y : Nat} (hx : x < 4) (hy : y < 4) (hxy : x ≠ y) (W : List Nat) : (∀ z, z ∈ W → z < 4) → x ∉ W → (rc_pr x y W).length = 2 ^ W.count y ∧ (x < y → (rc_pr x y W)[2 ^ W.count y - 1]? = some W) ∧ (y < x → (rc_pr x y W)[0]? = some W) := by
  induction W with
  | nil => intro _ _; exact ⟨rfl, fun _ => rfl, fun _ => rfl⟩
  | cons c W ih =>
    intro hW hxW
    have hc : c < 4 := hW c (by simp)
    have hcx : c ≠ x := fun z => hxW (by rw [z]; simp)
    obtain ⟨i1, i2, i3⟩ := ih (fun z hz => hW z (by simp [hz])) (fun z => hxW (by simp [z]))
    have hp : 0 < 2 ^ W.count y := Nat.pow_pos (by omega)
    rw [rc_pr_step hx hy hc hxy hcx]
    by_cases e : c = y
    · subst e
      have ec : (c :: W).count c = W.count c + 1 := List.count_cons_self
      rw [if_pos rfl, ec, Nat.pow_succ]
      by_cases q : x < c
      · rw [if_pos q]
        refine ⟨by rw [List.length_append, List.length_map, List.length_map, i1]; omega, fun _ => ?_, fun z => absurd z (by omega)⟩
        rw [List.getElem?_append_right (by rw [List.length_map, i1]; omega), List.length_map, i1, List.getElem?_map]
        rw [show 2 ^ W.count c * 2 - 1 - 2 ^ W.count c = 2 ^ W.count c - 1 by omega, i2 q]
        rfl
      · rw [if_neg q]
        refine ⟨by rw [List.length_append, List.length_map, List.length_map, i1]; omega, fun z => absurd z (by omega), fun z => ?_⟩
        rw [List.getElem?_append_left (by rw [List.length_map, i1]; omega), List.getElem?_map, i3 z]
        rfl
    · have ec : (c :: W).count y = W.count y := List.count_cons_of_ne e
      rw [if_neg e, ec]
      refine ⟨by rw [List.length_map, i1], fun z => ?_, fun z => ?_⟩
      · rw [List.getElem?_map, i2 z]; rfl
      · rw [List.getElem?_map, i3 z]; rfl
theorem rc_k0_Q {x y n : Nat} {W : List Nat} (hn : n ≤ 5) : (rc_words n).filter (fun u => decide (rc_F [(0, x, y, 31, 31)] u = W)) = (rc_words n).filter (fun u => decide (u.map (rc_f x y) = W)) := by
  refine List.filter_congr (fun u hu => ?_)
  obtain ⟨h1, h2⟩ := rc_w5 hn hu
  rw [rc_k0_F (by omega) h2]
theorem rc_k0_QQ {x y n : Nat} {W : List Nat} (hx : x < 4) (hy : y < 4) (hxy : x ≠ y) (hn : n ≤ 5) : (rc_words n).filter (fun u => decide (rc_F [(0, x, y, 31, 31), (0, x, y, 31, 31)] u = W)) = (rc_words n).filter (fun u => decide (u.map (rc_f x y) = W)) := by
  rw [← rc_k0_Q hn]
  refine List.filter_congr (fun u hu => ?_)
  obtain ⟨h1, h2⟩ := rc_w5 hn hu
  rw [rc_k0_same hx hy hxy (by omega) h2]
theorem rc_k0_src {x y n : Nat} {W : List Nat} (hx : x < 4) (hy : y < 4) (hxy : x ≠ y) (hn : n ≤ 5) (hW : ∀ z, z ∈ W → z < 4) : ((rc_words n).filter (fun u => decide (rc_F [(0, x, y, 31, 31)] u = W))).length = if n = W.length ∧ W.count x = 0 then 2 ^ W.count y else 0 := by
  rw [rc_k0_Q hn]
  by_cases e : n = W.length
  · by_cases c : W.count x = 0
    · rw [if_pos ⟨e, c⟩, e]
      exact (rc_pr_all hx hy hxy W hW (List.count_eq_zero.mp c)).1
    · rw [if_neg (fun z => c z.2), e]
      have hm : x ∈ W := by
        by_cases q : x ∈ W
        · exact q
        · exact absurd (List.count_eq_zero.mpr q) c
      have k := rc_pr_x (y := y) hxy hm
      unfold rc_pr at k
      rw [k]
      rfl
  · rw [if_neg (fun z => e z.1)]
    have k : (rc_words n).filter (fun u => decide (u.map (rc_f x y) = W)) = [] := by
      rw [List.filter_eq_nil_iff]
      intro u hu q
      have q' : u.map (rc_f x y) = W := of_decide_eq_true q
      apply e
      rw [← q', List.length_map]
      exact (rc_mem_words.mp hu).1.symm
    rw [k]
    rfl
end
section
/-! kind 1 -/
theorem rc_del {x : Nat} (hx : x < 4) (r : Nat) (hr : r < 32) : rc_Rv (1, x, 0, 31, r) := ⟨show 1 < 3 by decide, hx, show 0 < 4 by decide, show 31 < 32 by decide, hr⟩
theorem rc_ins {x : Nat} (hx : x < 4) (r : Nat) (hr : r < 32) : rc_Rv (2, 0, x, 31, r) := ⟨show 2 < 3 by decide, show 0 < 4 by decide, hx, show 31 < 32 by decide, hr⟩
theorem rc_nx_l {x : Nat} {u : List Nat} (h : ∀ z, z ∈ u → z < 4) : ∀ z, z ∈ rc_nx x u → z < 4 := fun z hz => h z (List.mem_filter.mp hz).1
theorem rc_nx_len (x : Nat) (u : List Nat) : (rc_nx x u).length ≤ u.length := List.length_filter_le _ _
theorem rc_nx_no (x : Nat) (u : List Nat) : rc_no x (rc_nx x u) = true := by
  rw [rc_no_iff]
  intro l hl
  have := (List.mem_filter.mp hl).2
  simpa using this
theorem rc_nx_fix (x : Nat) (u : List Nat) : rc_nx x u = u ↔ rc_no x u = true := by
  constructor
  · intro h
    rw [← h]
    exact rc_nx_no x u
  · intro h
    unfold rc_nx
    rw [List.filter_eq_self]
    intro l hl
    have := rc_no_iff.mp h l hl
    simpa using this
theorem rc_k1_F {x : Nat} {u : List Nat} (hl : u.length ≤ 12) (h : ∀ z, z ∈ u → z < 4) : rc_F [(1, x, 0, 31, 31)] u = rc_nx x u := by
  rw [rc_F1 h, rc_B1 hl h]
theorem rc_k1_FF {x : Nat} {u : List Nat} (hx : x < 4) (hl : u.length ≤ 5) (h : ∀ z, z ∈ u → z < 4) : rc_F [(1, x, 0, 31, 31), (2, 0, x, 31, 31)] u = rc_it x (rc_nx x u) := by
  rw [rc_F2 (rc_del hx 31 (by decide)) h, rc_B1 (by omega) h, rc_C1 (Nat.le_trans (rc_nx_len x u) hl) (rc_nx_l h)]
theorem rc_it_l {x : Nat} (hx : x < 4) (u : List Nat) : (∀ z, z ∈ u → z < 4) → ∀ z, z ∈ rc_it x u → z < 4 := by
  induction u with
  | nil => intro _ z hz; rw [List.mem_singleton.mp hz]; exact hx
  | cons y ys ih =>
    intro h z hz
    rcases List.mem_cons.mp hz with q | q
    · omega
    · rcases List.mem_cons.mp q with q | q
      · rw [q]; exact h y (by simp)
      · exact ih (fun w hw => h w (by simp [hw])) z q
theorem rc_it_len (x : Nat) (u : List Nat) : (rc_it x u).length = 2 * u.length + 1 := by
  induction u with
  | nil => rfl
  | cons y ys ih =>
    show (x :: y :: rc_it x ys).length = _
    rw [List.length_cons, List.length_cons, List.length_cons, ih]
    omega
theorem rc_it_inj (x : Nat) (a : List Nat) : ∀ b, rc_it x a = rc_it x b → a = b := by
  induction a with
  | nil =>
    intro b e
    cases b with
    | nil => rfl
    | cons y ys => exact absurd (List.cons.inj e).2 (by simp)
  | cons c cs ih =>
    intro b e
    cases b with
    | nil => exact absurd (List.cons.inj e).2 (by simp)
    | cons y ys =>
      have e1 := (List.cons.inj e).2
      obtain ⟨e2, e3⟩ := List.cons.inj e1
      rw [e2, ih ys e3]
theorem rc_it_x (x : Nat) (u : List Nat) : x ∈ rc_it x u := by
  cases u with
  | nil => exact List.mem_singleton.mpr rfl
  | cons y ys => exact List.mem_cons_self
theorem rc_k1_FG {x : Nat} {u : List Nat} (hx : x < 4) (hl : u.length ≤ 5) (h : ∀ z, z ∈ u → z < 4) : rc_F [(2, 0, x, 31, 31), (1, x, 0, 31, 31)] u = rc_nx x (rc_it x u) := by
  rw [rc_F2 (rc_ins hx 31 (by decide)) h, rc_C1 hl h, rc_B1 (by rw [rc_it_len]; omega) (rc_it_l hx u h)]
theorem rc_k1_com {x n : Nat} (hx : x < 4) (hn : n ≤ 5) : ∃ u, u ∈ rc_words n ∧ rc_F [(2, 0, x, 31, 31), (1, x, 0, 31, 31)] u ≠ rc_F [(1, x, 0, 31, 31), (2, 0, x, 31, 31)] u := by
  refine ⟨_, rc_rep_mem (n := n) hx, fun e => ?_⟩
  obtain ⟨h1, h2⟩ := rc_w5 hn (rc_rep_mem (n := n) hx)
  rw [rc_k1_FF hx h1 h2, rc_k1_FG hx h1 h2] at e
  have k := rc_no_iff.mp (rc_nx_no x (rc_it x (List.replicate n x)))
  rw [e] at k
  exact k x (rc_it_x x _) rfl
theorem rc_k1_still {x n : Nat} (hx : x < 4) (hn : n ≤ 5) : (rc_words n).countP (fun u => decide (rc_F [(1, x, 0, 31, 31)] u = u)) = 3 ^ n := by
  rw [rc_still_p (rc_no x) (fun v hv => ?_), rc_c1 n (by omega) x hx]
  obtain ⟨h1, h2⟩ := rc_w5 hn hv
  rw [rc_k1_F (by omega) h2]
  exact rc_nx_fix x v
theorem rc_k1_idle {x n : Nat} (hx : x < 4) (hn : n ≤ 5) : (∀ u, u ∈ rc_words n → rc_F [] u = rc_F [(1, x, 0, 31, 31)] u) ↔ n = 0 := by
  constructor
  · intro h
    cases n with
    | zero => rfl
    | succ n =>
      have hm := rc_rep_mem (n := n + 1) hx
      obtain ⟨h1, h2⟩ := rc_w5 hn hm
      have e := h _ hm
      rw [rc_F0 (by omega), rc_k1_F (by omega) h2] at e
      have k := rc_no_iff.mp ((rc_nx_fix x _).mp e.symm)
      exact absurd rfl (k x (by rw [List.replicate_succ]; exact List.mem_cons_self))
  · intro h u hu
    subst h
    have e : u = [] := List.length_eq_zero_iff.mp (rc_mem_words.mp hu).1
    rw [e, rc_F0 (by decide), rc_k1_F (by decide) (by simp)]
    rfl
/-- the sum of the powers of 3 -/
def rc_th : Nat → Nat
  | 0 => 1
  | n + 1 => rc_th n + 3 ^ (n + 1)
def rc_L1 (x : Nat) : Nat → List (List Nat)
  | 0 => [[]]
  | n + 1 => rc_L1 x n ++ (rc_words (n + 1)).filter (rc_no x)
theorem rc_L1_mem {x n : Nat} : ∀ {v : List Nat}, v ∈ rc_L1 x n ↔ v.length ≤ n ∧ (∀ z, z ∈ v → z < 4) ∧ rc_no x v = true := by
  induction n with
  | zero =>
    intro v
    show v ∈ [[]] ↔ _
    rw [List.mem_singleton]
    constructor
    · intro h; rw [h]; exact ⟨Nat.le_refl _, by simp, rfl⟩
    · intro h; exact List.length_eq_zero_iff.mp (by omega)
  | succ n ih =>
    intro v
    show v ∈ rc_L1 x n ++ (rc_words (n + 1)).filter (rc_no x) ↔ _
    rw [List.mem_append, ih, List.mem_filter, rc_mem_words]
    constructor
    · intro h
      rcases h with ⟨h1, h2, h3⟩ | ⟨⟨h1, h2⟩, h3⟩
      · exact ⟨by omega, h2, h3⟩
      · exact ⟨by omega, h2, h3⟩
    · intro ⟨h1, h2, h3⟩
      by_cases c : v.length ≤ n
      · exact Or.inl ⟨c, h2, h3⟩
      · exact Or.inr ⟨⟨by omega, h2⟩, h3⟩
theorem rc_L1_nodup {x : Nat} (n : Nat) : (rc_L1 x n).Nodup := by
  induction n with
  | zero => show ([[]] : List (List Nat)).Nodup; simp
  | succ n ih =>
    show (rc_L1 x n ++ (rc_words (n + 1)).filter (rc_no x)).Nodup
    rw [List.nodup_append]
    refine ⟨ih, List.Pairwise.filter _ (rc_words_nodup (n + 1)), fun a ha b hb e => ?_⟩
    have h1 := (rc_L1_mem.mp ha).1
    have h2 := (rc_mem_words.mp (List.mem_filter.mp hb).1).1
    rw [e] at h1
    omega
theorem rc_L1_len {x : Nat} (hx : x < 4) (n : Nat) : n ≤ 5 → (rc_L1 x n).length = rc_th n := by
  induction n with
  | zero => intro _; rfl
  | succ n ih =>
    intro hn
    show (rc_L1 x n ++ (rc_words (n + 1)).filter (rc_no x)).length = rc_th n + 3 ^ (n + 1)
    rw [List.length_append, ih (by omega), ← List.countP_eq_length_filter, rc_c1 (n + 1) (by omega) x hx]
theorem rc_nx_pad {x k : Nat} {v : List Nat} (h : rc_no x v = true) : rc_nx x (v ++ List.replicate k x) = v := by
  unfold rc_nx
  rw [List.filter_append]
  have e1 := (rc_nx_fix x v).mpr h
  unfold rc_nx at e1
  have e2 : (List.replicate k x).filter (fun l => !(l == x)) = [] := by
    rw [List.filter_eq_nil_iff]
    intro a ha
    rw [(List.mem_replicate.mp ha).2]
    simp
  rw [e1, e2, List.append_nil]
theorem rc_L1_up {x n : Nat} (hx : x < 4) {v : List Nat} (hv : v ∈ rc_L1 x n) : ∃ u, u ∈ rc_words n ∧ rc_nx x u = v := by
  obtain ⟨h1, h2, h3⟩ := rc_L1_mem.mp hv
  refine ⟨v ++ List.replicate (n - v.length) x, rc_mem_words.mpr ⟨by rw [List.length_append, List.length_replicate]; omega, fun z hz => ?_⟩, rc_nx_pad h3⟩
  rcases List.mem_append.mp hz with q | q
  · exact h2 z q
  · rw [(List.mem_replicate.mp q).2]; exact hx
theorem rc_L1_dn {x n : Nat} {u : List Nat} (hu : u ∈ rc_words n) : rc_nx x u ∈ rc_L1 x n := by
  obtain ⟨h1, h2⟩ := rc_mem_words.mp hu
  exact rc_L1_mem.mpr ⟨by rw [← h1]; exact rc_nx_len x u, rc_nx_l h2, rc_nx_no x u⟩
theorem rc_k1_im {x n : Nat} (hx : x < 4) (hn : n ≤ 5) : rc_im [(1, x, 0, 31, 31)] n (rc_th n) := by
  refine ⟨rc_L1 x n, rc_L1_nodup n, fun v hv => (rc_L1_mem.mp hv).2.1, fun v hv => ?_, fun u hu => ?_, rc_L1_len hx n hn⟩
  · obtain ⟨u, hu, e⟩ := rc_L1_up hx hv
    obtain ⟨h1, h2⟩ := rc_w5 hn hu
    exact ⟨u, hu, by rw [rc_k1_F (by omega) h2]; exact e⟩
  · obtain ⟨h1, h2⟩ := rc_w5 hn hu
    rw [rc_k1_F (by omega) h2]
    exact rc_L1_dn hu
theorem rc_k1_im2 {x n : Nat} (hx : x < 4) (hn : n ≤ 5) : rc_im [(1, x, 0, 31, 31), (2, 0, x, 31, 31)] n (rc_th n) := by
  refine ⟨(rc_L1 x n).map (rc_it x), ?_, fun v hv => ?_, fun v hv => ?_, fun u hu => ?_, by rw [List.length_map]; exact rc_L1_len hx n hn⟩
  · unfold List.Nodup
    rw [List.pairwise_map]
    exact List.Pairwise.imp (fun {a b} hab e => hab (rc_it_inj x a b e)) (rc_L1_nodup n)
  · obtain ⟨a, ha, e⟩ := List.mem_map.mp hv
    rw [← e]
    exact rc_it_l hx a (rc_L1_mem.mp ha).2.1
  · obtain ⟨a, ha, e⟩ := List.mem_map.mp hv
    obtain ⟨u, hu, e2⟩ := rc_L1_up hx ha
    obtain ⟨h1, h2⟩ := rc_w5 hn hu
    exact ⟨u, hu, by rw [rc_k1_FF hx h1 h2, e2, e]⟩
  · obtain ⟨h1, h2⟩ := rc_w5 hn hu
    rw [rc_k1_FF hx h1 h2]
    exact List.mem_map.mpr ⟨_, rc_L1_dn hu, rfl⟩
/-- Pascal -/
def rc_ch : Nat → Nat → Nat
  | _, 0 => 1
  | 0, _ + 1 => 0
  | n + 1, m + 1 => rc_ch n m + rc_ch n (m + 1)
def rc_sc (x n : Nat) (W : List Nat) : Nat := ((rc_words n).filter (fun u => decide (rc_nx x u = W))).length
theorem rc_sc_x {x n : Nat} {W : List Nat} (h : x ∈ W) : rc_sc x n W = 0 := by
  unfold rc_sc
  have k : (rc_words n).filter (fun u => decide (rc_nx x u = W)) = [] := by
    rw [List.filter_eq_nil_iff]
    intro u _ q
    have e : rc_nx x u = W := of_decide_eq_true q
    have k := rc_no_iff.mp (rc_nx_no x u)
    rw [e] at k
    exact k x h rfl
  rw [k]
  rfl
/-- the block of the letter l -/
def rc_sb (x n : Nat) (W : List Nat) (l : Nat) : Nat := (((rc_words n).map (fun u => l :: u)).filter (fun u => decide (rc_nx x u = W))).length
theorem rc_sb_x {x n : Nat} {W : List Nat} : rc_sb x n W x = rc_sc x n W := by
  unfold rc_sb rc_sc
  rw [List.filter_map, List.length_map]
  congr 1
  refine List.filter_congr (fun u _ => ?_)
  show decide (rc_nx x (x :: u) = W) = _
  have e : rc_nx x (x :: u) = rc_nx x u := List.filter_cons_of_neg (by simp)
  rw [e]
theorem rc_sb_c {x n c : Nat} {W : List Nat} (hc : c ≠ x) : rc_sb x n (c :: W) c = rc_sc x n W := by
  unfold rc_sb rc_sc
  rw [List.filter_map, List.length_map]
  congr 1
  refine List.filter_congr (fun u _ => ?_)
  show decide (rc_nx x (c :: u) = c :: W) = _
  have e : rc_nx x (c :: u) = c :: rc_nx x u := List.filter_cons_of_pos (by simp [hc])
  rw [e]
  simp
theorem rc_sb_0 {x n l : Nat} {W : List Nat} (hl : l ≠ x) (h : ∀ V, W ≠ l :: V) : rc_sb x n W l = 0 := by
  unfold rc_sb
  have k : ((rc_words n).map (fun u => l :: u)).filter (fun u => decide (rc_nx x u = W)) = [] := by
    rw [List.filter_eq_nil_iff]
    intro u hu q
    obtain ⟨v, _, e⟩ := List.mem_map.mp hu
    have q' : rc_nx x u = W := of_decide_eq_true q
    have e2 : rc_nx x (l :: v) = l :: rc_nx x v := List.filter_cons_of_pos (by simp [hl])
    rw [← e, e2] at q'
    exact h _ q'.symm
  rw [k]
  rfl
theorem rc_sc_succ {x n : Nat} {W : List Nat} : rc_sc x (n + 1) W = rc_sb x n W 0 + (rc_sb x n W 1 + (rc_sb x n W 2 + rc_sb x n W 3)) := by
  show (List.filter (fun u => decide (rc_nx x u = W)) ((rc_words n).map (fun u => 0 :: u) ++ ((rc_words n).map (fun u => 1 :: u) ++ ((rc_words n).map (fun u => 2 :: u) ++ (rc_words n).map (fun u => 3 :: u))))).length = _
  rw [List.filter_append, List.filter_append, List.filter_append, List.length_append, List.length_append, List.length_append]
  rfl
theorem rc_s1 (g : Nat → Nat) {x : Nat} (hx : x < 4) (h : ∀ l, l < 4 → l ≠ x → g l = 0) : g 0 + (g 1 + (g 2 + g 3)) = g x := by
  have k : x = 0 ∨ x = 1 ∨ x = 2 ∨ x = 3 := by omega
  rcases k with k | k | k | k <;> subst k
  · rw [h 1 (by omega) (by omega), h 2 (by omega) (by omega), h 3 (by omega) (by omega)]; omega
  · rw [h 0 (by omega) (by omega), h 2 (by omega) (by omega), h 3 (by omega) (by omega)]; omega
  · rw [h 0 (by omega) (by omega), h 1 (by omega) (by omega), h 3 (by omega) (by omega)]; omega
  · rw [h 0 (by omega) (by omega), h 1 (by omega) (by omega), h 2 (by omega) (by omega)]; omega
theorem rc_s2 (g : Nat → Nat) {p q : Nat} (hpq : p < q) (hq : q < 4) (h : ∀ l, l < 4 → l ≠ p → l ≠ q → g l = 0) : g 0 + (g 1 + (g 2 + g 3)) = g p + g q := by
  have k : (p = 0 ∧ q = 1) ∨ (p = 0 ∧ q = 2) ∨ (p = 0 ∧ q = 3) ∨ (p = 1 ∧ q = 2) ∨ (p = 1 ∧ q = 3) ∨ (p = 2 ∧ q = 3) := by omega
  rcases k with ⟨k1, k2⟩ | ⟨k1, k2⟩ | ⟨k1, k2⟩ | ⟨k1, k2⟩ | ⟨k1, k2⟩ | ⟨k1, k2⟩ <;> subst k1 <;> subst k2
  · rw [h 2 (by omega) (by omega) (by omega), h 3 (by omega) (by omega) (by omega)]; omega
  · rw [h 1 (by omega) (by omega) (by omega), h 3 (by omega) (by omega) (by omega)]; omega
  · rw [h 1 (by omega) (by omega) (by omega), h 2 (by omega) (by omega) (by omega)]; omega
  · rw [h 0 (by omega) (by omega) (by omega), h 3 (by omega) (by omega) (by omega)]; omega
  · rw [h 0 (by omega) (by omega) (by omega), h 2 (by omega) (by omega) (by omega)]; omega
  · rw [h 0 (by omega) (by omega) (by omega), h 1 (by omega) (by omega) (by omega)]; omega
theorem rc_sc_ch {x : Nat} (hx : x < 4) (n : Nat) : ∀ W : List Nat, (∀ z, z ∈ W → z < 4) → x ∉ W → rc_sc x n W = rc_ch n W.length := by
  induction n with
  | zero =>
    intro W _ _
    cases W with
    | nil => rfl
    | cons c W => rfl
  | succ n ih =>
    intro W hW hxW
    rw [rc_sc_succ]
    cases W with
    | nil =>
      rw [rc_s1 (rc_sb x n []) hx (fun l _ h => rc_sb_0 h (fun V e => absurd e (by simp))), rc_sb_x, ih [] hW hxW]
      cases n <;> rfl
    | cons c W =>
      have hc : c < 4 := hW c (by simp)
      have hcx : c ≠ x := fun z => hxW (by rw [z]; simp)
      have i1 := ih (c :: W) hW hxW
      have i2 := ih W (fun z hz => hW z (by simp [hz])) (fun z => hxW (by simp [z]))
      have h0 : ∀ l, l < 4 → l ≠ x → l ≠ c → rc_sb x n (c :: W) l = 0 := fun l _ h1 h2 => rc_sb_0 h1 (fun V e => h2 (List.cons.inj e).1.symm)
      have e : rc_sb x n (c :: W) x + rc_sb x n (c :: W) c = rc_ch (n + 1) (W.length + 1) := by
        rw [rc_sb_x, rc_sb_c hcx, i1, i2]
        show rc_ch n (W.length + 1) + rc_ch n W.length = rc_ch n W.length + rc_ch n (W.length + 1)
        omega
      show _ = rc_ch (n + 1) (W.length + 1)
      by_cases q : x < c
      · rw [rc_s2 (rc_sb x n (c :: W)) q hc h0]; exact e
      · rw [rc_s2 (rc_sb x n (c :: W)) (show c < x by omega) hx (fun l h1 h2 h3 => h0 l h1 h3 h2)]; omega
theorem rc_k1_src {x n : Nat} {W : List Nat} (hx : x < 4) (hn : n ≤ 5) (hW : ∀ z, z ∈ W → z < 4) : ((rc_words n).filter (fun u => decide (rc_F [(1, x, 0, 31, 31)] u = W))).length = if W.count x = 0 then rc_ch n W.length else 0 := by
  have e : (rc_words n).filter (fun u => decide (rc_F [(1, x, 0, 31, 31)] u = W)) = (rc_words n).filter (fun u => decide (rc_nx x u = W)) := by
    refine List.filter_congr (fun u hu => ?_)
    obtain ⟨h1, h2⟩ := rc_w5 hn hu
    rw [rc_k1_F (by omega) h2]
  rw [e]
  show rc_sc x n W = _
  by_cases c : W.count x = 0
  · rw [if_pos c]
    exact rc_sc_ch hx n W hW (List.count_eq_zero.mp c)
  · rw [if_neg c]
    refine rc_sc_x ?_
    by_cases q : x ∈ W
    · exact q
    · exact absurd (List.count_eq_zero.mpr q) c
theorem rc_nx_code (x : Nat) (u : List Nat) : rc_code (rc_nx x u) ≤ rc_code u := by
  have g : ∀ (u : List Nat) (c d : Nat), c ≤ d → (rc_nx x u).foldl (fun c d => 4 * c + d) c ≤ u.foldl (fun c d => 4 * c + d) d := by
    intro u
    induction u with
    | nil => intro c d h; exact h
    | cons y ys ih =>
      intro c d h
      by_cases q : y = x
      · have e : rc_nx x (y :: ys) = rc_nx x ys := List.filter_cons_of_neg (by simp [q])
        rw [e, List.foldl_cons]
        exact ih c (4 * d + y) (by omega)
      · have e : rc_nx x (y :: ys) = y :: rc_nx x ys := List.filter_cons_of_pos (by simp [q])
        rw [e, List.foldl_cons, List.foldl_cons]
        exact ih (4 * c + y) (4 * d + y) (by omega)
  exact g u 1 1 (Nat.le_refl _)
/-! kind 2 -/
theorem rc_k2_F {x : Nat} {u : List Nat} (hl : u.length ≤ 5) (h : ∀ z, z ∈ u → z < 4) : rc_F [(2, 0, x, 31, 16)] u = u ++ [x] := by
  rw [rc_F1 h, rc_D1 hl h]
theorem rc_k2_FF {x : Nat} {u : List Nat} (hx : x < 4) (hl : u.length ≤ 5) (h : ∀ z, z ∈ u → z < 4) : rc_F [(2, 0, x, 31, 16), (1, x, 0, 31, 16)] u = u := by
  rw [rc_F2 (rc_ins hx 16 (by decide)) h, rc_D1 hl h, rc_E1 hx (by omega) h]
theorem rc_k2_im {x n : Nat} (hx : x < 4) (hn : n ≤ 5) : rc_im [(2, 0, x, 31, 16)] n (4 ^ n) := by
  refine ⟨(rc_words n).map (fun u => u ++ [x]), ?_, fun v hv => ?_, fun v hv => ?_, fun u hu => ?_, by rw [List.length_map]; exact rc_words_len n⟩
  · unfold List.Nodup
    rw [List.pairwise_map]
    exact List.Pairwise.imp (fun {a b} hab e => hab (List.append_cancel_right e)) (rc_words_nodup n)
  · obtain ⟨a, ha, e⟩ := List.mem_map.mp hv
    rw [← e]
    intro y hy
    rcases List.mem_append.mp hy with q | q
    · exact (rc_w5 hn ha).2 y q
    · rw [List.mem_singleton.mp q]; exact hx
  · obtain ⟨a, ha, e⟩ := List.mem_map.mp hv
    obtain ⟨h1, h2⟩ := rc_w5 hn ha
    exact ⟨a, ha, by rw [rc_k2_F h1 h2]; exact e⟩
  · obtain ⟨h1, h2⟩ := rc_w5 hn hu
    rw [rc_k2_F h1 h2]
    exact List.mem_map.mpr ⟨u, hu, rfl⟩
theorem rc_k2_im2 {x n : Nat} (hx : x < 4) (hn : n ≤ 5) : rc_im [(2, 0, x, 31, 16), (1, x, 0, 31, 16)] n (4 ^ n) := by
  refine ⟨rc_words n, rc_words_nodup n, fun v hv => (rc_w5 hn hv).2, fun v hv => ?_, fun u hu => ?_, rc_words_len n⟩
  · obtain ⟨h1, h2⟩ := rc_w5 hn hv
    exact ⟨v, hv, rc_k2_FF hx h1 h2⟩
  · obtain ⟨h1, h2⟩ := rc_w5 hn hu
    rw [rc_k2_FF hx h1 h2]
    exact hu
theorem rc_k2_still {x n : Nat} (hn : n ≤ 5) : (rc_words n).countP (fun u => decide (rc_F [(2, 0, x, 31, 16)] u = u)) = 0 := by
  rw [List.countP_eq_zero]
  intro u hu q
  obtain ⟨h1, h2⟩ := rc_w5 hn hu
  have e := of_decide_eq_true q
  rw [rc_k2_F h1 h2] at e
  have := congrArg List.length e
  simp at this
theorem rc_k2_still2 {x n : Nat} (hx : x < 4) (hn : n ≤ 5) : (rc_words n).countP (fun u => decide (rc_F [(2, 0, x, 31, 16), (1, x, 0, 31, 16)] u = u)) = 4 ^ n := by
  rw [← rc_words_len n, List.countP_eq_length]
  intro u hu
  obtain ⟨h1, h2⟩ := rc_w5 hn hu
  exact decide_eq_true (rc_k2_FF hx h1 h2)
theorem rc_k2_idle {x n : Nat} (hx : x < 4) (hn : n ≤ 5) : ∃ u, u ∈ rc_words n ∧ rc_F [] u ≠ rc_F [(2, 0, x, 31, 16)] u := by
  have hm := rc_rep_mem (n := n) hx
  obtain ⟨h1, h2⟩ := rc_w5 hn hm
  refine ⟨_, hm, fun e => ?_⟩
  rw [rc_F0 (by omega), rc_k2_F h1 h2] at e
  have := congrArg List.length e
  simp at this
theorem rc_one {α : Type} {l : List α} {v : α} {p : α → Bool} (hn : l.Nodup) (hv : v ∈ l) (hp : ∀ u, u ∈ l → (p u = true ↔ u = v)) : l.filter p = [v] := by
  induction l with
  | nil => exact absurd hv (by simp)
  | cons a l ih =>
    obtain ⟨h1, h2⟩ := List.nodup_cons.mp hn
    by_cases c : a = v
    · rw [List.filter_cons_of_pos ((hp a (by simp)).mpr c), c]
      congr 1
      rw [List.filter_eq_nil_iff]
      intro b hb q
      have := (hp b (by simp [hb])).mp q
      rw [this, ← c] at hb
      exact h1 hb
    · rw [List.filter_cons_of_neg (fun q => c ((hp a (by simp)).mp q))]
      refine ih h2 ?_ (fun u hu => hp u (by simp [hu]))
      rcases List.mem_cons.mp hv with q | q
      · exact absurd q.symm c
      · exact q
theorem rc_k2_Q1 {x n : Nat} {V : List Nat} (hn : n ≤ 5) (hV : V ∈ rc_words n) : (rc_words n).filter (fun u => decide (rc_F [(2, 0, x, 31, 16)] u = V ++ [x])) = [V] := by
  refine rc_one (rc_words_nodup n) hV (fun u hu => ?_)
  obtain ⟨h1, h2⟩ := rc_w5 hn hu
  rw [decide_eq_true_iff, rc_k2_F h1 h2]
  exact ⟨fun e => List.append_cancel_right e, fun e => by rw [e]⟩
theorem rc_k2_Q0 {x n : Nat} {W : List Nat} (hn : n ≤ 5) (h : ∀ V, V ∈ rc_words n → W ≠ V ++ [x]) : (rc_words n).filter (fun u => decide (rc_F [(2, 0, x, 31, 16)] u = W)) = [] := by
  rw [List.filter_eq_nil_iff]
  intro u hu q
  obtain ⟨h1, h2⟩ := rc_w5 hn hu
  have e := of_decide_eq_true q
  rw [rc_k2_F h1 h2] at e
  exact h u hu e.symm
theorem rc_k2_src2 {x n : Nat} {W : List Nat} (hx : x < 4) (hn : n ≤ 5) (hW : ∀ z, z ∈ W → z < 4) : ((rc_words n).filter (fun u => decide (rc_F [(2, 0, x, 31, 16), (1, x, 0, 31, 16)] u = W))).length = if n = W.length then 1 else 0 := by
  by_cases c : n = W.length
  · rw [if_pos c, rc_one (v := W) (rc_words_nodup n) (rc_mem_words.mpr ⟨c.symm, hW⟩) (fun u hu => ?_)]
    · rfl
    · obtain ⟨h1, h2⟩ := rc_w5 hn hu
      rw [decide_eq_true_iff, rc_k2_FF hx h1 h2]
  · have e : (rc_words n).filter (fun u => decide (rc_F [(2, 0, x, 31, 16), (1, x, 0, 31, 16)] u = W)) = [] := by
      rw [List.filter_eq_nil_iff]
      intro u hu q
      obtain ⟨h1, h2⟩ := rc_w5 hn hu
      have e := of_decide_eq_true q
      rw [rc_k2_FF hx h1 h2] at e
      apply c
      rw [← e]
      exact (rc_mem_words.mp hu).1.symm
    rw [if_neg c, e]
    rfl
end
section
/-! kind 3: the first letter, the last letter -/
theorem rc_v3a {x y : Nat} (hx : x < 4) (hy : y < 4) : rc_Rv (0, x, y, 16, 31) := ⟨show 0 < 3 by decide, hx, hy, show 16 < 32 by decide, show 31 < 32 by decide⟩
theorem rc_v3b {x y : Nat} (hx : x < 4) (hy : y < 4) : rc_Rv (0, x, y, 31, 16) := ⟨show 0 < 3 by decide, hx, hy, show 31 < 32 by decide, show 16 < 32 by decide⟩
theorem rc_ff {x y l : Nat} (hxy : x ≠ y) : rc_f x y l ≠ x := by
  unfold rc_f
  split
  · omega
  · assumption
theorem rc_fn {x y l : Nat} (h : l ≠ x) : rc_f x y l = l := if_neg h
theorem rc_fx {x y : Nat} : rc_f x y x = y := if_pos rfl
theorem rc_fe {x l : Nat} : rc_f x x l = l := by
  unfold rc_f
  split
  · omega
  · rfl
theorem rc_1l {h : Nat} (hh : h < 4) : ∀ z, z ∈ [h] → z < 4 := fun z hz => by rw [List.mem_singleton.mp hz]; exact hh
theorem rc_3n {x y z w : Nat} {a b : Nat} : rc_F [(0, x, y, 16, 31)] [] = [] ∧ rc_F [(0, x, z, 31, 16)] [] = [] := by
  constructor
  · rw [rc_F1 (by simp), rc_1_nil (by intro q; cases q)]
  · rw [rc_F1 (by simp), rc_1_nil (by intro q; cases q)]
theorem rc_3n2 {x y z : Nat} (hx : x < 4) (hy : y < 4) (hz : z < 4) : rc_F [(0, x, y, 16, 31), (0, x, z, 31, 16)] [] = [] ∧ rc_F [(0, x, z, 31, 16), (0, x, y, 16, 31)] [] = [] := by
  constructor
  · rw [rc_F2 (rc_v3a hx hy) (by simp), rc_1_nil (by intro q; cases q), rc_1_nil (by intro q; cases q)]
  · rw [rc_F2 (rc_v3b hx hz) (by simp), rc_1_nil (by intro q; cases q), rc_1_nil (by intro q; cases q)]
theorem rc_3ra {x y h : Nat} {ls : List Nat} (hl : ls.length < 12) (hh : ∀ z, z ∈ h :: ls → z < 4) : rc_F [(0, x, y, 16, 31)] (h :: ls) = rc_f x y h :: ls := by
  rw [rc_F1 hh, rc_H1 hl hh]
theorem rc_3rb {x z e : Nat} {u : List Nat} (hl : u.length < 12) (h : ∀ q, q ∈ u ++ [e] → q < 4) : rc_F [(0, x, z, 31, 16)] (u ++ [e]) = u ++ [rc_f x z e] := by
  rw [rc_F1 h, rc_G1 hl h]
theorem rc_3one {x y z h : Nat} (hx : x < 4) (hy : y < 4) (hz : z < 4) (hh : h < 4) : rc_F [(0, x, y, 16, 31), (0, x, z, 31, 16)] [h] = [rc_f x z (rc_f x y h)] ∧ rc_F [(0, x, z, 31, 16), (0, x, y, 16, 31)] [h] = [rc_f x y (rc_f x z h)] := by
  constructor
  · rw [rc_F2 (rc_v3a hx hy) (rc_1l hh), rc_H1 (by decide) (rc_1l hh)]
    exact rc_G1 (u := []) (by decide) (rc_1l (rc_f_l hy hh))
  · rw [rc_F2 (rc_v3b hx hz) (rc_1l hh)]
    have e : rc_1 (0, x, z, 31, 16) [h] = [rc_f x z h] := rc_G1 (u := []) (by decide) (rc_1l hh)
    rw [e, rc_H1 (by decide) (rc_1l (rc_f_l hz hh))]
theorem rc_3two {x y z a b : Nat} {mid : List Nat} (hx : x < 4) (hy : y < 4) (hz : z < 4) (hl : mid.length < 11) (h : ∀ q, q ∈ a :: (mid ++ [b]) → q < 4) : rc_F [(0, x, y, 16, 31), (0, x, z, 31, 16)] (a :: (mid ++ [b])) = rc_f x y a :: (mid ++ [rc_f x z b]) ∧ rc_F [(0, x, z, 31, 16), (0, x, y, 16, 31)] (a :: (mid ++ [b])) = rc_f x y a :: (mid ++ [rc_f x z b]) := by
  have ha : a < 4 := h a (by simp)
  have hb : b < 4 := h b (by simp)
  have hm : ∀ q, q ∈ mid → q < 4 := fun q hq => h q (by simp [hq])
  have hab : ∀ p t, p < 4 → t < 4 → ∀ q, q ∈ p :: (mid ++ [t]) → q < 4 := by
    intro p t hp ht q hq
    simp only [List.mem_cons, List.mem_append, List.not_mem_nil, or_false] at hq
    rcases hq with k | k | k
    · omega
    · exact hm q k
    · omega
  have hlen : ∀ t, (mid ++ [t]).length < 12 := fun t => by rw [List.length_append, List.length_singleton]; omega
  constructor
  · rw [rc_F2 (rc_v3a hx hy) h, rc_H1 (hlen b) h]
    exact rc_G1 (u := rc_f x y a :: mid) (by rw [List.length_cons]; omega) (hab _ _ (rc_f_l hy ha) hb)
  · rw [rc_F2 (rc_v3b hx hz) h]
    have e : rc_1 (0, x, z, 31, 16) (a :: (mid ++ [b])) = a :: (mid ++ [rc_f x z b]) := rc_G1 (u := a :: mid) (by rw [List.length_cons]; omega) h
    rw [e, rc_H1 (hlen _) (hab _ _ ha (rc_f_l hz hb))]
theorem rc_w0 {u : List Nat} (h : u ∈ rc_words 0) : u = [] := List.length_eq_zero_iff.mp (rc_mem_words.mp h).1
theorem rc_w1 {u : List Nat} (h : u ∈ rc_words 1) : ∃ a, a < 4 ∧ u = [a] := by
  obtain ⟨h1, h2⟩ := rc_mem_words.mp h
  match u, h1, h2 with
  | [a], _, h2 => exact ⟨a, h2 a (by simp), rfl⟩
theorem rc_w2 {n : Nat} {u : List Nat} (hn : 2 ≤ n) (h : u ∈ rc_words n) : ∃ a mid b, u = a :: (mid ++ [b]) ∧ mid.length = n - 2 ∧ (∀ q, q ∈ a :: (mid ++ [b]) → q < 4) := by
  obtain ⟨h1, h2⟩ := rc_mem_words.mp h
  cases u with
  | nil => exact absurd h1 (by simp; omega)
  | cons a v =>
    rcases rc_snoc v with e | ⟨mid, b, e⟩
    · rw [e] at h1; exact absurd h1 (by simp; omega)
    · refine ⟨a, mid, b, by rw [e], ?_, by rw [e] at h2; exact h2⟩
      rw [e] at h1
      simp at h1
      omega
theorem rc_w2m {n a b : Nat} {mid : List Nat} (h : mid.length = n - 2) (hn : 2 ≤ n) (hl : ∀ q, q ∈ a :: (mid ++ [b]) → q < 4) : a :: (mid ++ [b]) ∈ rc_words n := rc_mem_words.mpr ⟨by simp; omega, hl⟩
/-- a word that begins with a and ends with b -/
theorem rc_w2e {n a b : Nat} (hn : 2 ≤ n) (ha : a < 4) (hb : b < 4) : ∃ mid : List Nat, mid.length = n - 2 ∧ (∀ q, q ∈ a :: (mid ++ [b]) → q < 4) := by
  refine ⟨List.replicate (n - 2) 0, List.length_replicate, fun q hq => ?_⟩
  simp only [List.mem_cons, List.mem_append, List.mem_replicate, List.not_mem_nil, or_false] at hq
  omega
theorem rc_k3_com1 {x y z n : Nat} (hx : x < 4) (hy : y < 4) (hz : z < 4) (hxy : x ≠ y) (hn : n ≤ 5) (h : ¬ (n = 1 ∧ y ≠ z ∧ z ≠ x)) : ∀ u, u ∈ rc_words n → rc_F [(0, x, z, 31, 16), (0, x, y, 16, 31)] u = rc_F [(0, x, y, 16, 31), (0, x, z, 31, 16)] u := by
  intro u hu
  by_cases n0 : n = 0
  · subst n0
    rw [rc_w0 hu, (rc_3n2 hx hy hz).1, (rc_3n2 hx hy hz).2]
  · by_cases n1 : n = 1
    · subst n1
      obtain ⟨a, ha, e⟩ := rc_w1 hu
      rw [e, (rc_3one hx hy hz ha).1, (rc_3one hx hy hz ha).2, rc_fn (rc_ff hxy)]
      congr 1
      by_cases c : z = x
      · rw [c, rc_fe]
      · have hyz : y = z := by
          rcases Nat.decEq y z with q | q
          · exact absurd ⟨rfl, q, c⟩ h
          · exact q
        subst hyz
        by_cases d : a = x
        · rw [d, rc_fx, rc_fn c]
        · rw [rc_fn d, rc_fn d]
    · obtain ⟨a, mid, b, e, hm, hl⟩ := rc_w2 (by omega) hu
      rw [e, (rc_3two hx hy hz (by omega) hl).1, (rc_3two hx hy hz (by omega) hl).2]
theorem rc_k3_com0 {x y z : Nat} (hx : x < 4) (hy : y < 4) (hz : z < 4) (hxy : x ≠ y) (h : y ≠ z ∧ z ≠ x) : ∃ u, u ∈ rc_words 1 ∧ rc_F [(0, x, z, 31, 16), (0, x, y, 16, 31)] u ≠ rc_F [(0, x, y, 16, 31), (0, x, z, 31, 16)] u := by
  refine ⟨[x], rc_rep_mem (n := 1) hx, ?_⟩
  rw [(rc_3one hx hy hz hx).1, (rc_3one hx hy hz hx).2, rc_fx, rc_fx, rc_fn h.2, rc_fn hxy.symm]
  intro e
  exact h.1 (List.cons.inj e).1.symm
theorem rc_k3_id0 {x y z n : Nat} (hx : x < 4) (hy : y < 4) (hz : z < 4) (hxy : x ≠ y) (hn : n ≤ 5) : (∀ u, u ∈ rc_words n → rc_F [(0, x, z, 31, 16)] u = rc_F [(0, x, y, 16, 31), (0, x, z, 31, 16)] u) ↔ (n = 0 ∨ (n = 1 ∧ z = y)) := by
  by_cases n0 : n = 0
  · subst n0
    refine ⟨fun _ => Or.inl rfl, fun _ u hu => ?_⟩
    rw [rc_w0 hu, (rc_3n2 hx hy hz).1, (rc_3n (x := x) (y := y) (z := z) (w := 0) (a := 0) (b := 0)).2]
  · by_cases n1 : n = 1
    · subst n1
      have e1 : ∀ a, a < 4 → rc_F [(0, x, z, 31, 16)] [a] = [rc_f x z a] := fun a ha => rc_3rb (u := []) (by decide) (rc_1l ha)
      constructor
      · intro h
        have e := h [x] (rc_rep_mem (n := 1) hx)
        rw [e1 x hx, (rc_3one hx hy hz hx).1, rc_fx, rc_fx, rc_fn hxy.symm] at e
        exact Or.inr ⟨rfl, (List.cons.inj e).1⟩
      · intro h u hu
        have hzy : z = y := by
          rcases h with q | q
          · exact absurd q (by omega)
          · exact q.2
        subst hzy
        obtain ⟨a, ha, e⟩ := rc_w1 hu
        rw [e, e1 a ha, (rc_3one hx hy hz ha).1, rc_fn (rc_ff hxy)]
    · constructor
      · intro h
        exfalso
        obtain ⟨mid, hm, hl⟩ := rc_w2e (n := n) (by omega) hx hx
        have e := h _ (rc_w2m hm (by omega) hl)
        have e1 : rc_F [(0, x, z, 31, 16)] (x :: (mid ++ [x])) = x :: (mid ++ [rc_f x z x]) := rc_3rb (u := x :: mid) (by rw [List.length_cons]; omega) hl
        rw [e1, (rc_3two hx hy hz (by omega) hl).1, rc_fx] at e
        exact hxy ((List.cons.inj e).1.trans rc_fx)
      · intro h
        exfalso
        rcases h with q | q
        · exact n0 q
        · exact n1 q.1
theorem rc_k3_id1 {x y z n : Nat} (hx : x < 4) (hy : y < 4) (hz : z < 4) (hxy : x ≠ y) (hn : n ≤ 5) : (∀ u, u ∈ rc_words n → rc_F [(0, x, y, 16, 31)] u = rc_F [(0, x, y, 16, 31), (0, x, z, 31, 16)] u) ↔ (n < 2 ∨ z = x) := by
  by_cases n0 : n = 0
  · subst n0
    refine ⟨fun _ => Or.inl (by omega), fun _ u hu => ?_⟩
    rw [rc_w0 hu, (rc_3n2 hx hy hz).1, (rc_3n (x := x) (y := y) (z := z) (w := 0) (a := 0) (b := 0)).1]
  · by_cases n1 : n = 1
    · subst n1
      refine ⟨fun _ => Or.inl (by omega), fun _ u hu => ?_⟩
      obtain ⟨a, ha, e⟩ := rc_w1 hu
      rw [e, rc_3ra (by decide) (rc_1l ha), (rc_3one hx hy hz ha).1, rc_fn (rc_ff hxy)]
    · constructor
      · intro h
        obtain ⟨mid, hm, hl⟩ := rc_w2e (n := n) (by omega) hx hx
        have e := h _ (rc_w2m hm (by omega) hl)
        rw [rc_3ra (by rw [List.length_append, List.length_singleton]; omega) hl, (rc_3two hx hy hz (by omega) hl).1] at e
        have e2 := List.append_cancel_left (List.cons.inj e).2
        rw [rc_fx] at e2
        exact Or.inr (List.cons.inj e2).1.symm
      · intro h u hu
        have hzx : z = x := by omega
        subst hzx
        obtain ⟨a, mid, b, e, hm, hl⟩ := rc_w2 (by omega) hu
        rw [e, rc_3ra (by rw [List.length_append, List.length_singleton]; omega) hl, (rc_3two hx hy hz (by omega) hl).1, rc_fe]
def rc_e1 (x : Nat) (u : List Nat) : Bool := !(u.head? == some x)
def rc_e2 (x : Nat) (u : List Nat) : Bool := rc_e1 x u && !(u.getLast? == some x)
theorem rc_c2 : ∀ n, n < 6 → ∀ x, x < 4 → (rc_words n).countP (rc_e2 x) = if n < 2 then 3 ^ n else 9 * 4 ^ (n - 2) := by decide +kernel
theorem rc_c3 : ∀ n, n < 6 → ∀ x, x < 4 → (rc_words n).countP (rc_e1 x) = if n = 0 then 1 else 3 * 4 ^ (n - 1) := by decide +kernel
theorem rc_e1c {x h : Nat} {ls : List Nat} : rc_e1 x (h :: ls) = true ↔ h ≠ x := by
  unfold rc_e1
  simp
theorem rc_e2a {x h : Nat} : rc_e2 x [h] = true ↔ h ≠ x := by
  unfold rc_e2 rc_e1
  simp
theorem rc_e2b {x a b : Nat} {mid : List Nat} : rc_e2 x (a :: (mid ++ [b])) = true ↔ (a ≠ x ∧ b ≠ x) := by
  have e : (a :: (mid ++ [b])).getLast? = some b := by
    show ((a :: mid) ++ [b]).getLast? = some b
    exact List.getLast?_concat
  unfold rc_e2
  rw [Bool.and_eq_true, rc_e1c, e]
  simp
theorem rc_k3_fix {x y z n : Nat} (hx : x < 4) (hy : y < 4) (hz : z < 4) (hxy : x ≠ y) (hzx : z ≠ x) (hn : n ≤ 5) : ∀ u, u ∈ rc_words n → (rc_F [(0, x, y, 16, 31), (0, x, z, 31, 16)] u = u ↔ rc_e2 x u = true) := by
  have fi : ∀ t l, x ≠ t → (rc_f x t l = l ↔ l ≠ x) := by
    intro t l ht
    constructor
    · intro e c
      rw [c, rc_fx] at e
      exact ht e.symm
    · intro c; exact rc_fn c
  intro u hu
  by_cases n0 : n = 0
  · subst n0
    rw [rc_w0 hu, (rc_3n2 hx hy hz).1]
    exact ⟨fun _ => rfl, fun _ => rfl⟩
  · by_cases n1 : n = 1
    · subst n1
      obtain ⟨a, ha, e⟩ := rc_w1 hu
      rw [e, (rc_3one hx hy hz ha).1, rc_fn (rc_ff hxy), rc_e2a, ← fi y a hxy]
      exact ⟨fun q => (List.cons.inj q).1, fun q => by rw [q]⟩
    · obtain ⟨a, mid, b, e, hm, hl⟩ := rc_w2 (by omega) hu
      rw [e, (rc_3two hx hy hz (by omega) hl).1, rc_e2b, ← fi y a hxy, ← fi z b hzx.symm]
      constructor
      · intro q
        obtain ⟨q1, q2⟩ := List.cons.inj q
        exact ⟨q1, (List.cons.inj (List.append_cancel_left q2)).1⟩
      · intro ⟨q1, q2⟩
        rw [q1, q2]
theorem rc_k3_still {x y z n : Nat} (hx : x < 4) (hy : y < 4) (hz : z < 4) (hxy : x ≠ y) (hzx : z ≠ x) (hn : n ≤ 5) : (rc_words n).countP (fun u => decide (rc_F [(0, x, y, 16, 31), (0, x, z, 31, 16)] u = u)) = if n < 2 then 3 ^ n else 9 * 4 ^ (n - 2) := by
  rw [rc_still_p (rc_e2 x) (rc_k3_fix hx hy hz hxy hzx hn), rc_c2 n (by omega) x hx]
theorem rc_k3_wd {x y z n : Nat} (hx : x < 4) (hy : y < 4) (hz : z < 4) : ∀ u, u ∈ rc_words n → n ≤ 5 → (rc_F [(0, x, y, 16, 31), (0, x, z, 31, 16)] u) ∈ rc_words n := by
  intro u hu hn
  by_cases n0 : n = 0
  · subst n0
    rw [rc_w0 hu, (rc_3n2 hx hy hz).1]
    exact List.mem_singleton.mpr rfl
  · by_cases n1 : n = 1
    · subst n1
      obtain ⟨a, ha, e⟩ := rc_w1 hu
      rw [e, (rc_3one hx hy hz ha).1]
      exact rc_rep_mem (n := 1) (rc_f_l hz (rc_f_l hy ha))
    · obtain ⟨a, mid, b, e, hm, hl⟩ := rc_w2 (by omega) hu
      rw [e, (rc_3two hx hy hz (by omega) hl).1]
      refine rc_w2m hm (by omega) (fun q hq => ?_)
      simp only [List.mem_cons, List.mem_append, List.not_mem_nil, or_false] at hq
      rcases hq with k | k | k
      · rw [k]; exact rc_f_l hy (hl a (by simp))
      · exact hl q (by simp [k])
      · rw [k]; exact rc_f_l hz (hl b (by simp))
theorem rc_k3_im {x y z n : Nat} (hx : x < 4) (hy : y < 4) (hz : z < 4) (hxy : x ≠ y) (hn : n ≤ 5) : rc_im [(0, x, y, 16, 31), (0, x, z, 31, 16)] n (if n = 0 then 1 else if n = 1 then 3 else if z = x then 3 * 4 ^ (n - 1) else 9 * 4 ^ (n - 2)) := by
  by_cases c : z = x
  · have e : (if n = 0 then 1 else if n = 1 then 3 else if z = x then 3 * 4 ^ (n - 1) else 9 * 4 ^ (n - 2)) = (rc_words n).countP (rc_e1 x) := by
      rw [rc_c3 n (by omega) x hx, if_pos c]
      by_cases n0 : n = 0
      · rw [if_pos n0, if_pos n0]
      · rw [if_neg n0, if_neg n0]
        by_cases n1 : n = 1
        · rw [if_pos n1, n1]
        · rw [if_neg n1]
    rw [e]
    refine rc_im_fix (rc_e1 x) (fun u hu => ⟨rc_k3_wd hx hy hz u hu hn, ?_⟩) (fun u hu hp => ?_)
    · by_cases n0 : n = 0
      · subst n0
        rw [rc_w0 hu, (rc_3n2 hx hy hz).1]
        rfl
      · by_cases n1 : n = 1
        · subst n1
          obtain ⟨a, ha, e⟩ := rc_w1 hu
          rw [e, (rc_3one hx hy hz ha).1, rc_fn (rc_ff hxy), rc_e1c]
          exact rc_ff hxy
        · obtain ⟨a, mid, b, e, hm, hl⟩ := rc_w2 (by omega) hu
          rw [e, (rc_3two hx hy hz (by omega) hl).1, rc_e1c]
          exact rc_ff hxy
    · by_cases n0 : n = 0
      · subst n0
        rw [rc_w0 hu, (rc_3n2 hx hy hz).1]
      · by_cases n1 : n = 1
        · subst n1
          obtain ⟨a, ha, e⟩ := rc_w1 hu
          rw [e, rc_e1c] at hp
          rw [e, (rc_3one hx hy hz ha).1, rc_fn (rc_ff hxy), rc_fn hp]
        · obtain ⟨a, mid, b, e, hm, hl⟩ := rc_w2 (by omega) hu
          rw [e, rc_e1c] at hp
          rw [e, (rc_3two hx hy hz (by omega) hl).1, rc_fn hp, c, rc_fe]
  · have e : (if n = 0 then 1 else if n = 1 then 3 else if z = x then 3 * 4 ^ (n - 1) else 9 * 4 ^ (n - 2)) = (rc_words n).countP (rc_e2 x) := by
      rw [rc_c2 n (by omega) x hx, if_neg c]
      by_cases n0 : n = 0
      · rw [if_pos n0, n0]; rfl
      · rw [if_neg n0]
        by_cases n1 : n = 1
        · rw [if_pos n1, n1]; rfl
        · rw [if_neg n1, if_neg (by omega)]
    rw [e]
    refine rc_im_fix (rc_e2 x) (fun u hu => ⟨rc_k3_wd hx hy hz u hu hn, ?_⟩) (fun u hu hp => (rc_k3_fix hx hy hz hxy c hn u hu).mpr hp)
    by_cases n0 : n = 0
    · subst n0
      rw [rc_w0 hu, (rc_3n2 hx hy hz).1]
      rfl
    · by_cases n1 : n = 1
      · subst n1
        obtain ⟨a, ha, e⟩ := rc_w1 hu
        rw [e, (rc_3one hx hy hz ha).1, rc_fn (rc_ff hxy), rc_e2a]
        exact rc_ff hxy
      · obtain ⟨a, mid, b, e, hm, hl⟩ := rc_w2 (by omega) hu
        rw [e, (rc_3two hx hy hz (by omega) hl).1, rc_e2b]
        exact ⟨rc_ff hxy, rc_ff (fun q => c q.symm)⟩
end
section
/-! the calls as the law makes them: what the rules and the word don't touch is any -/
theorem rc_Laf {post : Int32 → St2 → Prop} {ru sz li co go re wa fo la : Int32} {a1 a2 a3 a4 a5 a6 a7 a8 a9 a10 a11 a12 a13 : Nat → Int32} {a14 : Nat → Int64} {a15 : Nat → Int32} {a16 : Nat → Int64} {a17 a18 : Nat → Int32} {rl : List rc_R} {W V : List Nat} (k : Nat) (hK : rc_K rl W ru sz a1 a2 a3 a4 a5 a6) (hk : k ≤ rl.length) (hV : rc_F (rl.take k) W = V)
    (H : ∀ li co go re wa fo la a7 a8 a9 a10 a11 a12 a13 a14 a15 a16 a17 a18, post (nI (rc_code V)) (ru, sz, li, co, go, re, wa, fo, la, a1, a2, a3, a4, a5, a6, a7, a8, a9, a10, a11, a12, a13, a14, a15, a16, a17, a18)) : wpX_after post (ru, sz, li, co, go, re, wa, fo, la, a1, a2, a3, a4, a5, a6, a7, a8, a9, a10, a11, a12, a13, a14, a15, a16, a17, a18) (nI k) := by
  subst hV
  exact rc_after hK hk (fun l c g e z b7 b8 b9 b10 b11 b12 b13 => H l c g e z _ _ b7 b8 b9 b10 b11 b12 b13 _ _ _ _ _)
theorem rc_Lst {post : Int32 → St2 → Prop} {ru sz li co go re wa fo la : Int32} {a1 a2 a3 a4 a5 a6 a7 a8 a9 a10 a11 a12 a13 : Nat → Int32} {a14 : Nat → Int64} {a15 : Nat → Int32} {a16 : Nat → Int64} {a17 a18 : Nat → Int32} {rl : List rc_R} {W : List Nat} {n c : Nat} (hn : n ≤ 5) (hK : rc_K rl W ru sz a1 a2 a3 a4 a5 a6) (h : (rc_words n).countP (fun u => decide (rc_F rl u = u)) = c)
    (H : ∀ li co go re wa fo la a7 a8 a9 a10 a11 a12 a13 a14 a15 a16 a17 a18, post (nI c) (ru, sz, li, co, go, re, wa, fo, la, a1, a2, a3, a4, a5, a6, a7, a8, a9, a10, a11, a12, a13, a14, a15, a16, a17, a18)) : wpX_still post (ru, sz, li, co, go, re, wa, fo, la, a1, a2, a3, a4, a5, a6, a7, a8, a9, a10, a11, a12, a13, a14, a15, a16, a17, a18) (nI n) := by
  subst h
  exact rc_still hn hK (fun l c g e z b7 b8 b9 b10 b11 b12 b13 => H l c g e z _ _ b7 b8 b9 b10 b11 b12 b13 _ _ _ _ _)
theorem rc_Lim {post : Int32 → St2 → Prop} {ru sz li co go re wa fo la : Int32} {a1 a2 a3 a4 a5 a6 a7 a8 a9 a10 a11 a12 a13 : Nat → Int32} {a14 : Nat → Int64} {a15 : Nat → Int32} {a16 : Nat → Int64} {a17 a18 : Nat → Int32} {rl : List rc_R} {W : List Nat} {n c : Nat} (hn : n ≤ 5) (hK : rc_K rl W ru sz a1 a2 a3 a4 a5 a6) (h : rc_im rl n c)
    (H : ∀ li co go re wa fo la a7 a8 a9 a10 a11 a12 a13 a14 a15 a16 a17 a18, post (nI c) (ru, sz, li, co, go, re, wa, fo, la, a1, a2, a3, a4, a5, a6, a7, a8, a9, a10, a11, a12, a13, a14, a15, a16, a17, a18)) : wpX_images post (ru, sz, li, co, go, re, wa, fo, la, a1, a2, a3, a4, a5, a6, a7, a8, a9, a10, a11, a12, a13, a14, a15, a16, a17, a18) (nI n) := by
  obtain ⟨Ls, h1, h2, h3, h4, h5⟩ := h
  subst h5
  exact rc_images hn hK Ls h1 h2 h3 h4 (fun l c g e z b7 b8 b9 b10 b11 b12 b13 b18 => H l c g e z _ _ b7 b8 b9 b10 b11 b12 b13 _ _ _ _ b18)
theorem rc_Lso {post : Int32 → St2 → Prop} {ru sz li co go re wa fo la : Int32} {a1 a2 a3 a4 a5 a6 a7 a8 a9 a10 a11 a12 a13 : Nat → Int32} {a14 : Nat → Int64} {a15 : Nat → Int32} {a16 : Nat → Int64} {a17 a18 : Nat → Int32} {rl : List rc_R} {W : List Nat} {n c : Nat} (hn : n ≤ 5) (hK : rc_K rl W ru sz a1 a2 a3 a4 a5 a6) (h : ((rc_words n).filter (fun u => decide (rc_F rl u = W))).length = c)
    (H : ∀ li co go re wa fo la a7 a8 a9 a10 a11 a12 a13 a14 a15 a16 a17 a18, post (nI c) (ru, sz, li, co, go, re, wa, fo, la, a1, a2, a3, a4, a5, a6, a7, a8, a9, a10, a11, a12, a13, a14, a15, a16, a17, a18)) : wpX_sources post (ru, sz, li, co, go, re, wa, fo, la, a1, a2, a3, a4, a5, a6, a7, a8, a9, a10, a11, a12, a13, a14, a15, a16, a17, a18) (nI n) := by
  subst h
  exact rc_sources hn hK (fun li co go re wa fo la a7 a8 a9 a10 a11 a12 a13 a14 a15 a16 a17 => H li co go re wa fo la a7 a8 a9 a10 a11 a12 a13 a14 a15 a16 a17 _)
theorem rc_Lsr {post : Int32 → St2 → Prop} {ru sz li co go re wa fo la : Int32} {a1 a2 a3 a4 a5 a6 a7 a8 a9 a10 a11 a12 a13 : Nat → Int32} {a14 : Nat → Int64} {a15 : Nat → Int32} {a16 : Nat → Int64} {a17 a18 : Nat → Int32} {rl : List rc_R} {W V : List Nat} {n : Nat} (k : Nat) (hn : n ≤ 5) (hk : k < 2 ^ 30) (hK : rc_K rl W ru sz a1 a2 a3 a4 a5 a6) (h : ((rc_words n).filter (fun u => decide (rc_F rl u = W)))[k]? = some V)
    (H : ∀ li co go re wa fo la a7 a8 a9 a10 a11 a12 a13 a14 a15 a16 a17 a18, post (nI (rc_code V)) (ru, sz, li, co, go, re, wa, fo, la, a1, a2, a3, a4, a5, a6, a7, a8, a9, a10, a11, a12, a13, a14, a15, a16, a17, a18)) : wpX_source post (ru, sz, li, co, go, re, wa, fo, la, a1, a2, a3, a4, a5, a6, a7, a8, a9, a10, a11, a12, a13, a14, a15, a16, a17, a18) (nI n) (nI k) := by
  refine rc_source hn hk hK ?_
  rw [h]
  exact (fun li co go re wa fo la a7 a8 a9 a10 a11 a12 a13 a14 a15 a16 a17 => H li co go re wa fo la a7 a8 a9 a10 a11 a12 a13 a14 a15 a16 a17 _)
theorem rc_Lsn {post : Int32 → St2 → Prop} {ru sz li co go re wa fo la : Int32} {a1 a2 a3 a4 a5 a6 a7 a8 a9 a10 a11 a12 a13 : Nat → Int32} {a14 : Nat → Int64} {a15 : Nat → Int32} {a16 : Nat → Int64} {a17 a18 : Nat → Int32} {rl : List rc_R} {W : List Nat} {n : Nat} (k : Nat) (hn : n ≤ 5) (hk : k < 2 ^ 30) (hK : rc_K rl W ru sz a1 a2 a3 a4 a5 a6) (h : ((rc_words n).filter (fun u => decide (rc_F rl u = W)))[k]? = none)
    (H : ∀ li co go re wa fo la a7 a8 a9 a10 a11 a12 a13 a14 a15 a16 a17 a18, post (-4) (ru, sz, li, co, go, re, wa, fo, la, a1, a2, a3, a4, a5, a6, a7, a8, a9, a10, a11, a12, a13, a14, a15, a16, a17, a18)) : wpX_source post (ru, sz, li, co, go, re, wa, fo, la, a1, a2, a3, a4, a5, a6, a7, a8, a9, a10, a11, a12, a13, a14, a15, a16, a17, a18) (nI n) (nI k) := by
  refine rc_source hn hk hK ?_
  rw [h]
  exact (fun li co go re wa fo la a7 a8 a9 a10 a11 a12 a13 a14 a15 a16 a17 => H li co go re wa fo la a7 a8 a9 a10 a11 a12 a13 a14 a15 a16 a17 _)
theorem rc_Lco {post : Int32 → St2 → Prop} {ru sz li co go re wa fo la : Int32} {a1 a2 a3 a4 a5 a6 a7 a8 a9 a10 a11 a12 a13 : Nat → Int32} {a14 : Nat → Int64} {a15 : Nat → Int32} {a16 : Nat → Int64} {a17 a18 : Nat → Int32} {x y : rc_R} {W : List Nat} {n : Nat} (v : Int32) (hn : n ≤ 5) (hK : rc_K [x, y] W ru sz a1 a2 a3 a4 a5 a6) (h1 : (∀ u, u ∈ rc_words n → rc_F [y, x] u = rc_F [x, y] u) → v = 1) (h0 : (∃ u, u ∈ rc_words n ∧ rc_F [y, x] u ≠ rc_F [x, y] u) → v = 0)
    (H : ∀ li co go re wa fo la a7 a8 a9 a10 a11 a12 a13 a14 a15 a16 a17 a18, post v (ru, sz, li, co, go, re, wa, fo, la, a1, a2, a3, a4, a5, a6, a7, a8, a9, a10, a11, a12, a13, a14, a15, a16, a17, a18)) : wpX_commute post (ru, sz, li, co, go, re, wa, fo, la, a1, a2, a3, a4, a5, a6, a7, a8, a9, a10, a11, a12, a13, a14, a15, a16, a17, a18) 0 (nI n) := by
  refine rc_commute hn hK (fun h => ?_) (fun h => ?_)
  · have e := h1 h
    subst e
    exact fun l c g e z b7 b8 b9 b10 b11 b12 b13 b18 => H l c g e z _ _ b7 b8 b9 b10 b11 b12 b13 _ _ _ _ b18
  · have e := h0 h
    subst e
    exact fun l c g e z b7 b8 b9 b10 b11 b12 b13 b18 => H l c g e z _ _ b7 b8 b9 b10 b11 b12 b13 _ _ _ _ b18
theorem rc_Lid {post : Int32 → St2 → Prop} {ru sz li co go re wa fo la : Int32} {a1 a2 a3 a4 a5 a6 a7 a8 a9 a10 a11 a12 a13 : Nat → Int32} {a14 : Nat → Int64} {a15 : Nat → Int32} {a16 : Nat → Int64} {a17 a18 : Nat → Int32} {rl rs : List rc_R} {W : List Nat} {n : Nat} (k : Nat) (v : Int32) (hn : n ≤ 5) (hK : rc_K rl W ru sz a1 a2 a3 a4 a5 a6) (hk : k < rl.length) (hrs : rl.eraseIdx k = rs) (h1 : (∀ u, u ∈ rc_words n → rc_F rs u = rc_F rl u) → v = 1) (h0 : (∃ u, u ∈ rc_words n ∧ rc_F rs u ≠ rc_F rl u) → v = 0)
    (H : ∀ li co go re wa fo la a7 a8 a9 a10 a11 a12 a13 a14 a15 a16 a17 a18, post v (ru, sz, li, co, go, re, wa, fo, la, a1, a2, a3, a4, a5, a6, a7, a8, a9, a10, a11, a12, a13, a14, a15, a16, a17, a18)) : wpX_idle post (ru, sz, li, co, go, re, wa, fo, la, a1, a2, a3, a4, a5, a6, a7, a8, a9, a10, a11, a12, a13, a14, a15, a16, a17, a18) (nI k) (nI n) := by
  subst hrs
  refine rc_idle hn hk hK (fun h => ?_) (fun h => ?_)
  · have e := h1 h
    subst e
    exact fun l c g e z b7 b8 b9 b10 b11 b12 b13 b18 => H l c g e z _ _ b7 b8 b9 b10 b11 b12 b13 _ _ _ _ b18
  · have e := h0 h
    subst e
    exact fun l c g e z b7 b8 b9 b10 b11 b12 b13 b18 => H l c g e z _ _ b7 b8 b9 b10 b11 b12 b13 _ _ _ _ b18
theorem rc_all_not {α : Type} {l : List α} {p q : α → List Nat} (h : ∀ u, u ∈ l → p u = q u) : ¬ ∃ u, u ∈ l ∧ p u ≠ q u := fun ⟨u, hu, k⟩ => k (h u hu)
/-! power, choose -/
theorem rc_pow {post : Int32 → Prop} {x : Int32} (b k : Nat) (hk : k ≤ 5) (H : post (nI (b ^ k))) (hx : x = nI k := by rfl) : wpL_power post () (nI b) x := by
  subst hx
  unfold wpL_power
  have c : k = 0 ∨ k = 1 ∨ k = 2 ∨ k = 3 ∨ k = 4 ∨ k = 5 := by omega
  rcases c with c | c | c | c | c | c <;> subst c
  · exact br_f (by decide) H
  · rw [Nat.pow_one] at H
    exact br_t (by decide) (br_t rfl H)
  · refine br_t (by decide) (br_f (by decide) (br_t rfl ?_))
    rw [pk_mul, show b * b = b ^ 2 by simp [Nat.pow_succ]]
    exact H
  · refine br_t (by decide) (br_f (by decide) (br_f (by decide) (br_t rfl ?_)))
    rw [pk_mul, pk_mul, show b * b * b = b ^ 3 by simp [Nat.pow_succ]]
    exact H
  · refine br_t (by decide) (br_f (by decide) (br_f (by decide) (br_f (by decide) (br_t rfl ?_))))
    rw [pk_mul, pk_mul, pk_mul, show b * b * b * b = b ^ 4 by simp [Nat.pow_succ]]
    exact H
  · refine br_t (by decide) (br_f (by decide) (br_f (by decide) (br_f (by decide) (br_f (by decide) ?_))))
    rw [pk_mul, pk_mul, pk_mul, pk_mul, show b * b * b * b * b = b ^ 5 by simp [Nat.pow_succ]]
    exact H
def rc_ci (n : Nat) : Nat → Int32
  | 0 => 1
  | i + 1 => (rc_ci n i * (nI n - nI i)) / (nI i + 1)
theorem rc_ct : ∀ n, n < 6 → ∀ m, m < 6 → (if m ≤ n then rc_ci n m else 0) = nI (rc_ch n m) := by decide +kernel
theorem rc_cn : ∀ i, i < 6 → ¬ nI i + 1 = 0 := by decide
theorem rc_choose {post : Int32 → Prop} {n m : Nat} (hn : n ≤ 5) (hm : m ≤ 5) (H : post (nI (rc_ch n m))) : wpL_choose post () (nI n) (nI m) := by
  rw [← rc_ct n (by omega) m (by omega)] at H
  unfold wpL_choose
  refine pk_loop (fun f i (s : Int32) => wL_choose_4 post (nI n) (nI m) f s (nI i)) (fun i s => s = rc_ci n i) m 0 1 (by omega) rfl ?_ ?_
  · intro f s hs
    refine pk_le m m (fun _ => br_f (nI_pos (by omega)) (pk_le m n (fun z => ?_) (fun z => ?_))) (fun z => absurd z (by omega))
    · rw [if_pos z] at H
      rw [hs]
      exact H
    · rw [if_neg (by omega)] at H
      exact H
  · intro f i s hi hs hw
    refine pk_le m i (fun z => absurd z (by omega)) (fun _ => ⟨rc_cn i (by omega), nm_e (nm_r (nI_1 i) (hw _ ?_))⟩)
    rw [hs]
    rfl
theorem rc_Lr0 {post : Int32 → St2 → Prop} {ru sz li co go re wa fo la : Int32} {a1 a2 a3 a4 a5 a6 a7 a8 a9 a10 a11 a12 a13 : Nat → Int32} {a14 : Nat → Int64} {a15 : Nat → Int32} {a16 : Nat → Int64} {a17 a18 : Nat → Int32} {rl : List rc_R} {W : List Nat} {f t : Nat} (s : Nat) (rl' : List rc_R) (hf : f < 4) (ht : t < 4) (hs : s < 1024) (hK : rc_K rl W ru sz a1 a2 a3 a4 a5 a6) (hL : rl.length < 5) (hrl : rl ++ [(0, f, t, s % 32, s / 32)] = rl')
    (H : ∀ ru a1 a2 a3 a4 a5, rc_K rl' W ru sz a1 a2 a3 a4 a5 a6 → post (nI (rl.length + 1)) (ru, sz, li, co, go, re, wa, fo, la, a1, a2, a3, a4, a5, a6, a7, a8, a9, a10, a11, a12, a13, a14, a15, a16, a17, a18)) : wpX_rule post (ru, sz, li, co, go, re, wa, fo, la, a1, a2, a3, a4, a5, a6, a7, a8, a9, a10, a11, a12, a13, a14, a15, a16, a17, a18) 0 (nI f) (nI t) (nI s) := by
  subst hrl
  exact rc_rule0 s hf ht hs hL hK H
theorem rc_Lr1 {post : Int32 → St2 → Prop} {ru sz li co go re wa fo la : Int32} {a1 a2 a3 a4 a5 a6 a7 a8 a9 a10 a11 a12 a13 : Nat → Int32} {a14 : Nat → Int64} {a15 : Nat → Int32} {a16 : Nat → Int64} {a17 a18 : Nat → Int32} {rl : List rc_R} {W : List Nat} {f : Nat} {y : Int32} (s : Nat) (rl' : List rc_R) (hf : f < 4) (hs : s < 1024) (hK : rc_K rl W ru sz a1 a2 a3 a4 a5 a6) (hL : rl.length < 5) (hrl : rl ++ [(1, f, 0, s % 32, s / 32)] = rl')
    (H : ∀ ru a1 a2 a3 a4 a5, rc_K rl' W ru sz a1 a2 a3 a4 a5 a6 → post (nI (rl.length + 1)) (ru, sz, li, co, go, re, wa, fo, la, a1, a2, a3, a4, a5, a6, a7, a8, a9, a10, a11, a12, a13, a14, a15, a16, a17, a18)) : wpX_rule post (ru, sz, li, co, go, re, wa, fo, la, a1, a2, a3, a4, a5, a6, a7, a8, a9, a10, a11, a12, a13, a14, a15, a16, a17, a18) 1 (nI f) y (nI s) := by
  subst hrl
  exact rc_rule1 s hf hs hL hK H
theorem rc_Lr2 {post : Int32 → St2 → Prop} {ru sz li co go re wa fo la : Int32} {a1 a2 a3 a4 a5 a6 a7 a8 a9 a10 a11 a12 a13 : Nat → Int32} {a14 : Nat → Int64} {a15 : Nat → Int32} {a16 : Nat → Int64} {a17 a18 : Nat → Int32} {rl : List rc_R} {W : List Nat} {t : Nat} {x : Int32} (s : Nat) (rl' : List rc_R) (ht : t < 4) (hs : s < 1024) (hK : rc_K rl W ru sz a1 a2 a3 a4 a5 a6) (hL : rl.length < 5) (hrl : rl ++ [(2, 0, t, s % 32, s / 32)] = rl')
    (H : ∀ ru a1 a2 a3 a4 a5, rc_K rl' W ru sz a1 a2 a3 a4 a5 a6 → post (nI (rl.length + 1)) (ru, sz, li, co, go, re, wa, fo, la, a1, a2, a3, a4, a5, a6, a7, a8, a9, a10, a11, a12, a13, a14, a15, a16, a17, a18)) : wpX_rule post (ru, sz, li, co, go, re, wa, fo, la, a1, a2, a3, a4, a5, a6, a7, a8, a9, a10, a11, a12, a13, a14, a15, a16, a17, a18) 2 x (nI t) (nI s) := by
  subst hrl
  exact rc_rule2 s ht hs hL hK H
end
section
/-! the law, kind 0 -/
theorem rc_l452 {post : Int32 → St0 → Prop} {mc ms kc ks : Nat} {ru sz li co go re wa fo la : Int32} {a1 a2 a3 a4 a5 a6 a7 a8 a9 a10 a11 a12 a13 : Nat → Int32} {a14 : Nat → Int64} {a15 : Nat → Int32} {a16 : Nat → Int64} {a17 a18 : Nat → Int32} {x y n : Nat} {W : List Nat} {z0 z1 : Int32} (hx : x < 4) (hy : y < 4) (hxy : x ≠ y) (hn : n ≤ 5) (hK : rc_K [(0, x, y, 31, 31), (0, y, x, 31, 31)] W ru sz a1 a2 a3 a4 a5 a6) (hz : z1 = z0) (H : post 1 ()) : wL_lawOf_452 post mc ms (nI n) z0 z1 kc ks ru sz li co go re wa fo la a1 a2 a3 a4 a5 a6 a7 a8 a9 a10 a11 a12 a13 a14 a15 a16 a17 a18 := by
  unfold wL_lawOf_452
  refine br_t hz (rc_Lim hn hK (rc_k0_im2 hx hy hxy hn) (fun _ _ _ _ _ _ _ _ _ _ _ _ _ _ _ _ _ _ _ => rc_pow 3 n hn (br_t rfl ?_)))
  refine rc_swap0 hK (fun _ _ _ _ _ _ hK => br_t rfl ?_)
  exact rc_Lst hn hK (rc_k0_still2 hx hy hxy hn) (fun _ _ _ _ _ _ _ _ _ _ _ _ _ _ _ _ _ _ _ => rc_pow 3 n hn (br_t rfl H))
theorem rc_l407 {post : Int32 → St0 → Prop} {mc ms kc ks : Nat} {ru sz li co go re wa fo la : Int32} {a1 a2 a3 a4 a5 a6 a7 a8 a9 a10 a11 a12 a13 : Nat → Int32} {a14 : Nat → Int64} {a15 : Nat → Int32} {a16 : Nat → Int64} {a17 a18 : Nat → Int32} {x y n : Nat} {W : List Nat} (hx : x < 4) (hy : y < 4) (hxy : x ≠ y) (hn : n ≤ 5) (hK : rc_K [(0, x, y, 31, 31), (0, x, y, 31, 31)] W ru sz a1 a2 a3 a4 a5 a6) (H : post 1 ()) : wL_lawOf_407 post mc ms (nI x) (nI y) (nI n) kc ks ru sz li co go re wa fo la a1 a2 a3 a4 a5 a6 a7 a8 a9 a10 a11 a12 a13 a14 a15 a16 a17 a18 := by
  unfold wL_lawOf_407
  refine rc_drop0 hK (fun _ _ _ _ _ _ hK => br_t rfl ?_)
  refine rc_Lr0 1023 [(0, x, y, 31, 31), (0, y, x, 31, 31)] hy hx (by decide) hK (show 1 < 5 by decide) rfl (fun _ _ _ _ _ _ hK => br_t rfl ?_)
  by_cases n0 : n = 0
  · refine rc_Lco 1 hn hK (fun _ => rfl) (fun ⟨u, hu, k⟩ => absurd ((rc_k0_com hx hy hxy hn).mpr n0 u hu) k) (fun _ _ _ _ _ _ _ _ _ _ _ _ _ _ _ _ _ _ _ => pk_eq n 0 (fun _ => ?_) (fun z => absurd n0 z))
    exact rc_l452 hx hy hxy hn hK rfl H
  · refine rc_Lco 0 hn hK (fun h => absurd ((rc_k0_com hx hy hxy hn).mp h) n0) (fun _ => rfl) (fun _ _ _ _ _ _ _ _ _ _ _ _ _ _ _ _ _ _ _ => pk_eq n 0 (fun z => absurd z n0) (fun _ => ?_))
    exact rc_l452 hx hy hxy hn hK rfl H
theorem rc_l397 {post : Int32 → St0 → Prop} {mc ms kc ks : Nat} {ru sz li co go re wa fo la : Int32} {a1 a2 a3 a4 a5 a6 a7 a8 a9 a10 a11 a12 a13 : Nat → Int32} {a14 : Nat → Int64} {a15 : Nat → Int32} {a16 : Nat → Int64} {a17 a18 : Nat → Int32} {x y n k : Nat} {W : List Nat} {z0 : Int32} (hx : x < 4) (hy : y < 4) (hxy : x ≠ y) (hn : n ≤ 5) (hz : z0 = nI k) (hk : k < 2 ^ 30) (hK : rc_K [(0, x, y, 31, 31), (0, x, y, 31, 31)] W ru sz a1 a2 a3 a4 a5 a6) (h : ((rc_words n).filter (fun u => decide (u.map (rc_f x y) = W)))[k]? = some W) (H : post 1 ()) : wL_lawOf_397 post mc ms (nI x) (nI y) (nI n) (nI (rc_code W)) z0 (nI n) kc ks ru sz li co go re wa fo la a1 a2 a3 a4 a5 a6 a7 a8 a9 a10 a11 a12 a13 a14 a15 a16 a17 a18 := by
  subst hz
  unfold wL_lawOf_397
  refine rc_Lsr k hn hk hK (V := W) ?_ (fun _ _ _ _ _ _ _ _ _ _ _ _ _ _ _ _ _ _ _ => br_t rfl ?_)
  · rw [rc_k0_QQ hx hy hxy hn]
    exact h
  · exact rc_l407 hx hy hxy hn hK H
theorem rc_l269 {post : Int32 → St0 → Prop} {mc ms kc ks : Nat} {ru sz li co go re wa fo la : Int32} {a1 a2 a3 a4 a5 a6 a7 a8 a9 a10 a11 a12 a13 : Nat → Int32} {a14 : Nat → Int64} {a15 : Nat → Int32} {a16 : Nat → Int64} {a17 a18 : Nat → Int32} {x y n m : Nat} {W : List Nat} {z0 z1 : Int32} (hx : x < 4) (hy : y < 4) (hxy : x ≠ y) (hn : n ≤ 5) (hm : m ≤ 5) (hWm : W.length = m) (hW : ∀ z, z ∈ W → z < 4) (hK : rc_K [(0, x, y, 31, 31)] W ru sz a1 a2 a3 a4 a5 a6) (hz : z1 = z0) (H : post 1 ()) : wL_lawOf_269 post mc ms (nI x) (nI y) (nI n) (nI m) (nI (W.count x)) (nI (W.count y)) (nI (rc_code W)) z0 z1 kc ks ru sz li co go re wa fo la a1 a2 a3 a4 a5 a6 a7 a8 a9 a10 a11 a12 a13 a14 a15 a16 a17 a18 := by
  have cx : W.count x ≤ 5 := Nat.le_trans List.count_le_length (by omega)
  have cy : W.count y ≤ 5 := Nat.le_trans List.count_le_length (by omega)
  have c32 : 2 ^ W.count y ≤ 2 ^ 5 := Nat.pow_le_pow_right (by omega) cy
  have cp : 0 < 2 ^ W.count y := Nat.pow_pos (by omega)
  unfold wL_lawOf_269
  refine br_t hz (rc_Lr0 1023 [(0, x, y, 31, 31), (0, x, y, 31, 31)] hx hy (by decide) hK (show 1 < 5 by decide) rfl (fun _ _ _ _ _ _ hK => br_t rfl ?_))
  refine rc_Lco 1 hn hK (fun _ => rfl) (fun ⟨u, hu, k⟩ => absurd rfl k) (fun _ _ _ _ _ _ _ _ _ _ _ _ _ _ _ _ _ _ _ => br_t rfl ?_)
  have same : ∀ u, u ∈ rc_words n → rc_F [(0, x, y, 31, 31)] u = rc_F [(0, x, y, 31, 31), (0, x, y, 31, 31)] u := by
    intro u hu
    obtain ⟨h1, h2⟩ := rc_w5 hn hu
    exact (rc_k0_same hx hy hxy (by omega) h2).symm
  refine rc_Lid 0 1 hn hK (show 0 < 2 by decide) (rs := [(0, x, y, 31, 31)]) rfl (fun _ => rfl) (fun h => absurd h (rc_all_not same)) (fun _ _ _ _ _ _ _ _ _ _ _ _ _ _ _ _ _ _ _ => br_t rfl ?_)
  refine rc_Lid 1 1 hn hK (show 1 < 2 by decide) (rs := [(0, x, y, 31, 31)]) rfl (fun _ => rfl) (fun h => absurd h (rc_all_not same)) (fun _ _ _ _ _ _ _ _ _ _ _ _ _ _ _ _ _ _ _ => br_t rfl ?_)
  refine rc_Laf 2 hK (show 2 ≤ 2 by decide) (V := rc_F [(0, x, y, 31, 31)] W) (rc_k0_same hx hy hxy (by omega) hW) (fun _ _ _ _ _ _ _ _ _ _ _ _ _ _ _ _ _ _ _ => ?_)
  refine rc_Laf 1 hK (show 1 ≤ 2 by decide) (V := rc_F [(0, x, y, 31, 31)] W) rfl (fun _ _ _ _ _ _ _ _ _ _ _ _ _ _ _ _ _ _ _ => br_t rfl ?_)
  refine rc_pow 2 (W.count y) cy ?_
  refine pk_eq n m (fun q => ?_) (fun q => rc_l407 hx hy hxy hn hK H)
  refine pk_eq (W.count x) 0 (fun q0 => ?_) (fun q0 => rc_l407 hx hy hxy hn hK H)
  have hnW : n = W.length := by omega
  obtain ⟨p1, p2, p3⟩ := rc_pr_all hx hy hxy W hW (List.count_eq_zero.mp q0)
  have ep : rc_pr x y W = (rc_words n).filter (fun u => decide (u.map (rc_f x y) = W)) := by rw [hnW]; rfl
  rw [ep] at p1 p2 p3
  refine rc_Lsn (2 ^ W.count y) hn (by omega) hK ?_ (fun _ _ _ _ _ _ _ _ _ _ _ _ _ _ _ _ _ _ _ => br_t rfl ?_)
  · rw [rc_k0_QQ hx hy hxy hn]
    exact List.getElem?_eq_none (by omega)
  · refine pk_le y x (fun z => ?_) (fun z => ?_)
    · exact rc_l397 (k := 0) hx hy hxy hn rfl (by decide) hK (p3 (by omega)) H
    · exact rc_l397 (k := 2 ^ W.count y - 1) hx hy hxy hn (pk_sub (b := 1) (by omega)) (by omega) hK (p2 z) H
/-! kind 1 -/
theorem rc_l599 {post : Int32 → St0 → Prop} {mc ms kc ks : Nat} {ru sz li co go re wa fo la : Int32} {a1 a2 a3 a4 a5 a6 a7 a8 a9 a10 a11 a12 a13 : Nat → Int32} {a14 : Nat → Int64} {a15 : Nat → Int32} {a16 : Nat → Int64} {a17 a18 : Nat → Int32} {x n : Nat} {W : List Nat} {z0 z1 : Int32} (hx : x < 4) (hn : n ≤ 5) (hWm : W.length ≤ 5) (hW : ∀ z, z ∈ W → z < 4) (hK : rc_K [(1, x, 0, 31, 31)] W ru sz a1 a2 a3 a4 a5 a6) (hz : z1 = z0) (H : post 1 ()) : wL_lawOf_599 post mc ms (nI x) (nI n) (nI (rc_code W)) (nI (rc_th n)) z0 z1 kc ks ru sz li co go re wa fo la a1 a2 a3 a4 a5 a6 a7 a8 a9 a10 a11 a12 a13 a14 a15 a16 a17 a18 := by
  unfold wL_lawOf_599
  refine br_t hz (rc_Lr2 1023 [(1, x, 0, 31, 31), (2, 0, x, 31, 31)] hx (by decide) hK (show 1 < 5 by decide) rfl (fun _ _ _ _ _ _ hK => br_t rfl ?_))
  refine rc_Lim hn hK (rc_k1_im2 hx hn) (fun _ _ _ _ _ _ _ _ _ _ _ _ _ _ _ _ _ _ _ => br_t rfl ?_)
  refine rc_Lco 0 hn hK (fun h => absurd (rc_k1_com hx hn) (rc_all_not h)) (fun _ => rfl) (fun _ _ _ _ _ _ _ _ _ _ _ _ _ _ _ _ _ _ _ => br_t rfl ?_)
  refine rc_Laf 1 hK (show 1 ≤ 2 by decide) (V := rc_nx x W) (rc_k1_F (by omega) hW) (fun _ _ _ _ _ _ _ _ _ _ _ _ _ _ _ _ _ _ _ => ?_)
  have hl := rc_code_lt W hW
  have h5 : 4 ^ W.length ≤ 4 ^ 5 := Nat.pow_le_pow_right (by omega) hWm
  have h55 : (4 : Nat) ^ 5 = 1024 := by decide
  have hc := rc_nx_code x W
  refine pk_lt (rc_code W) (rc_code (rc_nx x W)) (fun z => absurd z (by omega)) (fun _ => ?_)
  exact rc_drop1 hK (fun _ _ _ _ _ _ hK => br_t rfl H)
theorem rc_l576 {post : Int32 → St0 → Prop} {mc ms kc ks : Nat} {ru sz li co go re wa fo la : Int32} {a1 a2 a3 a4 a5 a6 a7 a8 a9 a10 a11 a12 a13 : Nat → Int32} {a14 : Nat → Int64} {a15 : Nat → Int32} {a16 : Nat → Int64} {a17 a18 : Nat → Int32} {x n : Nat} {W : List Nat} {z0 z1 : Int32} (hx : x < 4) (hn : n ≤ 5) (hWm : W.length ≤ 5) (hW : ∀ z, z ∈ W → z < 4) (hK : rc_K [(1, x, 0, 31, 31)] W ru sz a1 a2 a3 a4 a5 a6) (hz : z1 = z0) (H : post 1 ()) : wL_lawOf_576 post mc ms (nI x) (nI n) (nI (rc_code W)) (nI (rc_th n)) z0 z1 kc ks ru sz li co go re wa fo la a1 a2 a3 a4 a5 a6 a7 a8 a9 a10 a11 a12 a13 a14 a15 a16 a17 a18 := by
  unfold wL_lawOf_576
  refine br_t hz ?_
  by_cases n0 : n = 0
  · refine rc_Lid 0 1 hn hK (show 0 < 1 by decide) (rs := []) rfl (fun _ => rfl) (fun h => absurd h (rc_all_not ((rc_k1_idle hx hn).mpr n0))) (fun _ _ _ _ _ _ _ _ _ _ _ _ _ _ _ _ _ _ _ => pk_eq n 0 (fun _ => ?_) (fun z => absurd n0 z))
    exact rc_l599 hx hn hWm hW hK rfl H
  · refine rc_Lid 0 0 hn hK (show 0 < 1 by decide) (rs := []) rfl (fun h => absurd ((rc_k1_idle hx hn).mp h) n0) (fun _ => rfl) (fun _ _ _ _ _ _ _ _ _ _ _ _ _ _ _ _ _ _ _ => pk_eq n 0 (fun z => absurd z n0) (fun _ => ?_))
    exact rc_l599 hx hn hWm hW hK rfl H
/-! kind 2 -/
theorem rc_l826 {post : Int32 → St0 → Prop} {mc ms kc ks : Nat} {ru sz li co go re wa fo la : Int32} {a1 a2 a3 a4 a5 a6 a7 a8 a9 a10 a11 a12 a13 : Nat → Int32} {a14 : Nat → Int64} {a15 : Nat → Int32} {a16 : Nat → Int64} {a17 a18 : Nat → Int32} {x n m : Nat} {W : List Nat} {z0 z1 : Int32} (hx : x < 4) (hn : n ≤ 5) (hm : m ≤ 5) (hWm : W.length = m) (hW : ∀ z, z ∈ W → z < 4) (hK : rc_K [(2, 0, x, 31, 16)] W ru sz a1 a2 a3 a4 a5 a6) (hz : z1 = z0) (H : post 1 ()) : wL_lawOf_826 post mc ms (nI x) (nI n) (nI m) (nI (rc_code W)) z0 z1 kc ks ru sz li co go re wa fo la a1 a2 a3 a4 a5 a6 a7 a8 a9 a10 a11 a12 a13 a14 a15 a16 a17 a18 := by
  unfold wL_lawOf_826
  refine br_t hz (rc_Lr1 543 [(2, 0, x, 31, 16), (1, x, 0, 31, 16)] hx (by decide) hK (show 1 < 5 by decide) rfl (fun _ _ _ _ _ _ hK => br_t rfl ?_))
  refine rc_Laf 2 hK (show 2 ≤ 2 by decide) (V := W) (rc_k2_FF hx (by omega) hW) (fun _ _ _ _ _ _ _ _ _ _ _ _ _ _ _ _ _ _ _ => br_t rfl ?_)
  refine rc_Lim hn hK (rc_k2_im2 hx hn) (fun _ _ _ _ _ _ _ _ _ _ _ _ _ _ _ _ _ _ _ => rc_pow 4 n hn (br_t rfl ?_))
  refine rc_Lst hn hK (rc_k2_still2 hx hn) (fun _ _ _ _ _ _ _ _ _ _ _ _ _ _ _ _ _ _ _ => rc_pow 4 n hn (br_t rfl ?_))
  refine rc_Lso hn hK (rc_k2_src2 hx hn hW) (fun _ _ _ _ _ _ _ _ _ _ _ _ _ _ _ _ _ _ _ => pk_eq n m (fun q => ?_) (fun q => ?_))
  · rw [if_pos (by omega)]
    unfold wL_lawOf_910
    exact br_t rfl H
  · rw [if_neg (by omega)]
    unfold wL_lawOf_910
    exact br_t rfl H
theorem rc_l760 {post : Int32 → St0 → Prop} {mc ms kc ks : Nat} {ru sz li co go re wa fo la : Int32} {a1 a2 a3 a4 a5 a6 a7 a8 a9 a10 a11 a12 a13 : Nat → Int32} {a14 : Nat → Int64} {a15 : Nat → Int32} {a16 : Nat → Int64} {a17 a18 : Nat → Int32} {x n m : Nat} {W : List Nat} {z0 : Int32} (hx : x < 4) (hn : n ≤ 5) (hm : m ≤ 5) (hWm : W.length = m) (hW : ∀ z, z ∈ W → z < 4) (hK : rc_K [(2, 0, x, 31, 16)] W ru sz a1 a2 a3 a4 a5 a6) (hz : ∀ V e, W = V ++ [e] → z0 = nI e) (H : post 1 ()) : wL_lawOf_760 post mc ms (nI x) (nI n) (nI m) (nI (rc_code W)) z0 kc ks ru sz li co go re wa fo la a1 a2 a3 a4 a5 a6 a7 a8 a9 a10 a11 a12 a13 a14 a15 a16 a17 a18 := by
  unfold wL_lawOf_760
  by_cases c : ∃ V, V ∈ rc_words n ∧ W = V ++ [x]
  · obtain ⟨V, hV, e⟩ := c
    have ez : z0 = nI x := hz V x e
    have el : m = n + 1 := by rw [← hWm, e, List.length_append, (rc_mem_words.mp hV).1]; rfl
    have eq := rc_k2_Q1 (x := x) hn hV
    rw [← e] at eq
    have ec : nI (rc_code W) >>> ((2 : Int32) &&& 31) = nI (rc_code V) := by
      have hl := rc_code_lt W hW
      have h5 : 4 ^ W.length ≤ 4 ^ 5 := Nat.pow_le_pow_right (by omega) (by omega)
      have h55 : (4 : Nat) ^ 5 = 1024 := by decide
      rw [pk_shrN (by omega) _ 2 (by decide), e, rc_code_app]
      congr 1
      omega
    refine rc_Lso (c := 1) hn hK (by rw [eq]; rfl) (fun _ _ _ _ _ _ _ _ _ _ _ _ _ _ _ _ _ _ _ => pk_eq m (n + 1) (fun _ => br_t ez ?_) (fun z => absurd el z) rfl (nI_1 n))
    unfold wL_lawOf_790
    refine br_t rfl (rc_Lsr 0 hn (by decide) hK (V := V) (by rw [eq]; rfl) (fun _ _ _ _ _ _ _ _ _ _ _ _ _ _ _ _ _ _ _ => pk_eq m (n + 1) (fun _ => br_t ez ?_) (fun z => absurd el z) rfl (nI_1 n)))
    exact rc_l826 hx hn hm hWm hW hK ec.symm H
  · have eq := rc_k2_Q0 (x := x) (W := W) hn (fun V hV e => c ⟨V, hV, e⟩)
    have nz : m = n + 1 → ¬ z0 = nI x := by
      intro em e
      rcases rc_snoc W with q | ⟨V, d, q⟩
      · rw [q] at hWm; simp at hWm; omega
      · have hd : d < 4 := hW d (by rw [q]; simp)
        have e1 : nI d = nI x := (hz V d q).symm.trans e
        have e2 := (nI_eq (by omega) (by omega)).mp e1
        rw [e2] at q
        refine c ⟨V, rc_mem_words.mpr ⟨?_, fun y hy => hW y (by rw [q]; simp [hy])⟩, q⟩
        rw [q, List.length_append, List.length_singleton] at hWm
        omega
    have k789 : ∀ li co go re wa fo la a7 a8 a9 a10 a11 a12 a13 a14 a15 a16 a17 a18, wL_lawOf_789 post mc ms (nI x) (nI n) (nI m) (nI (rc_code W)) z0 (nI 0) kc ks ru sz li co go re wa fo la a1 a2 a3 a4 a5 a6 a7 a8 a9 a10 a11 a12 a13 a14 a15 a16 a17 a18 := by
      intro li co go re wa fo la a7 a8 a9 a10 a11 a12 a13 a14 a15 a16 a17 a18
      unfold wL_lawOf_789 wL_lawOf_790
      have k824 : ∀ li co go re wa fo la a7 a8 a9 a10 a11 a12 a13 a14 a15 a16 a17 a18, wL_lawOf_824 post mc ms (nI x) (nI n) (nI m) (nI (rc_code W)) (-4) kc ks ru sz li co go re wa fo la a1 a2 a3 a4 a5 a6 a7 a8 a9 a10 a11 a12 a13 a14 a15 a16 a17 a18 := by
        intro li co go re wa fo la a7 a8 a9 a10 a11 a12 a13 a14 a15 a16 a17 a18
        unfold wL_lawOf_824
        exact rc_l826 hx hn hm hWm hW hK rfl H
      exact br_t rfl (rc_Lsn 0 hn (by decide) hK (by rw [eq]; rfl) (fun _ _ _ _ _ _ _ _ _ _ _ _ _ _ _ _ _ _ _ => pk_eq m (n + 1) (fun em => br_f (nz em) (k824 _ _ _ _ _ _ _ _ _ _ _ _ _ _ _ _ _ _ _)) (fun _ => k824 _ _ _ _ _ _ _ _ _ _ _ _ _ _ _ _ _ _ _) rfl (nI_1 n)))
    exact rc_Lso (c := 0) hn hK (by rw [eq]; rfl) (fun _ _ _ _ _ _ _ _ _ _ _ _ _ _ _ _ _ _ _ => pk_eq m (n + 1) (fun em => br_f (nz em) (k789 _ _ _ _ _ _ _ _ _ _ _ _ _ _ _ _ _ _ _)) (fun _ => k789 _ _ _ _ _ _ _ _ _ _ _ _ _ _ _ _ _ _ _) rfl (nI_1 n))
end
section
/-! the law, kind 3 -/
theorem rc_l1156 {post : Int32 → St0 → Prop} {mc ms kc ks : Nat} {ru sz li co go re wa fo la : Int32} {a1 a2 a3 a4 a5 a6 a7 a8 a9 a10 a11 a12 a13 : Nat → Int32} {a14 : Nat → Int64} {a15 : Nat → Int32} {a16 : Nat → Int64} {a17 a18 : Nat → Int32} {z0 z1 : Int32} (hz : z1 = z0) (H : post 1 ()) : wL_lawOf_1156 post mc ms z0 z1 kc ks ru sz li co go re wa fo la a1 a2 a3 a4 a5 a6 a7 a8 a9 a10 a11 a12 a13 a14 a15 a16 a17 a18 := by
  unfold wL_lawOf_1156
  exact br_t hz (rc_rule3 (br_t rfl (rc_rule4 (br_t rfl H))))
theorem rc_l1094 {post : Int32 → St0 → Prop} {mc ms kc ks : Nat} {ru sz li co go re wa fo la : Int32} {a1 a2 a3 a4 a5 a6 a7 a8 a9 a10 a11 a12 a13 : Nat → Int32} {a14 : Nat → Int64} {a15 : Nat → Int32} {a16 : Nat → Int64} {a17 a18 : Nat → Int32} {x y z n : Nat} {W : List Nat} {z0 z1 : Int32} (hx : x < 4) (hy : y < 4) (hzz : z < 4) (hxy : x ≠ y) (hn : n ≤ 5) (hK : rc_K [(0, x, y, 16, 31), (0, x, z, 31, 16)] W ru sz a1 a2 a3 a4 a5 a6) (hz : z1 = z0) (H : post 1 ()) : wL_lawOf_1094 post mc ms (nI x) (nI z) (nI n) z0 z1 kc ks ru sz li co go re wa fo la a1 a2 a3 a4 a5 a6 a7 a8 a9 a10 a11 a12 a13 a14 a15 a16 a17 a18 := by
  unfold wL_lawOf_1094
  refine br_t hz (rc_Lim hn hK (rc_k3_im hx hy hzz hxy hn) (fun _ _ _ _ _ _ _ _ _ _ _ _ _ _ _ _ _ _ _ => pk_eq n 0 (fun n0 => ?_) (fun n0 => pk_eq n 1 (fun n1 => ?_) (fun n1 => pk_eq z x (fun c => ?_) (fun c => ?_)))))
  · rw [if_pos n0]
    exact rc_l1156 rfl H
  · rw [if_neg n0, if_pos n1]
    exact rc_l1156 rfl H
  · rw [if_neg n0, if_neg n1, if_pos c]
    refine rc_pow 4 (n - 1) (by omega) ?_ (pk_sub (b := 1) (by omega))
    exact rc_l1156 (pk_mul 3 _).symm H
  · rw [if_neg n0, if_neg n1, if_neg c]
    refine rc_pow 4 (n - 2) (by omega) ?_ (pk_sub (b := 2) (by omega))
    exact rc_l1156 (pk_mul 9 _).symm H
theorem rc_l1065 {post : Int32 → St0 → Prop} {mc ms kc ks : Nat} {ru sz li co go re wa fo la : Int32} {a1 a2 a3 a4 a5 a6 a7 a8 a9 a10 a11 a12 a13 : Nat → Int32} {a14 : Nat → Int64} {a15 : Nat → Int32} {a16 : Nat → Int64} {a17 a18 : Nat → Int32} {x y z n : Nat} {W : List Nat} {z0 z1 : Int32} (hx : x < 4) (hy : y < 4) (hzz : z < 4) (hxy : x ≠ y) (hn : n ≤ 5) (hK : rc_K [(0, x, y, 16, 31), (0, x, z, 31, 16)] W ru sz a1 a2 a3 a4 a5 a6) (hz : z1 = z0) (H : post 1 ()) : wL_lawOf_1065 post mc ms (nI x) (nI z) (nI n) z0 z1 kc ks ru sz li co go re wa fo la a1 a2 a3 a4 a5 a6 a7 a8 a9 a10 a11 a12 a13 a14 a15 a16 a17 a18 := by
  unfold wL_lawOf_1065
  refine br_t hz ?_
  by_cases c : n < 2 ∨ z = x
  · have all := (rc_k3_id1 hx hy hzz hxy hn).mpr c
    refine rc_Lid 1 1 hn hK (show 1 < 2 by decide) (rs := [(0, x, y, 16, 31)]) rfl (fun _ => rfl) (fun h => absurd h (rc_all_not all)) (fun _ _ _ _ _ _ _ _ _ _ _ _ _ _ _ _ _ _ _ => ?_)
    refine pk_lt n 2 (fun q => ?_) (fun q => pk_eq z x (fun q2 => ?_) (fun q2 => absurd c (by omega)))
    · unfold wL_lawOf_1089
      exact rc_l1094 hx hy hzz hxy hn hK rfl H
    · unfold wL_lawOf_1089
      exact rc_l1094 hx hy hzz hxy hn hK rfl H
  · refine rc_Lid 1 0 hn hK (show 1 < 2 by decide) (rs := [(0, x, y, 16, 31)]) rfl (fun h => absurd ((rc_k3_id1 hx hy hzz hxy hn).mp h) c) (fun _ => rfl) (fun _ _ _ _ _ _ _ _ _ _ _ _ _ _ _ _ _ _ _ => ?_)
    refine pk_lt n 2 (fun q => absurd (Or.inl q) c) (fun q => pk_eq z x (fun q2 => absurd (Or.inr q2) c) (fun q2 => ?_))
    exact rc_l1094 hx hy hzz hxy hn hK rfl H
theorem rc_l1031 {post : Int32 → St0 → Prop} {mc ms kc ks : Nat} {ru sz li co go re wa fo la : Int32} {a1 a2 a3 a4 a5 a6 a7 a8 a9 a10 a11 a12 a13 : Nat → Int32} {a14 : Nat → Int64} {a15 : Nat → Int32} {a16 : Nat → Int64} {a17 a18 : Nat → Int32} {x y z n : Nat} {W : List Nat} {z0 z1 : Int32} (hx : x < 4) (hy : y < 4) (hzz : z < 4) (hxy : x ≠ y) (hn : n ≤ 5) (hK : rc_K [(0, x, y, 16, 31), (0, x, z, 31, 16)] W ru sz a1 a2 a3 a4 a5 a6) (hz : z1 = z0) (H : post 1 ()) : wL_lawOf_1031 post mc ms (nI x) (nI y) (nI z) (nI n) z0 z1 kc ks ru sz li co go re wa fo la a1 a2 a3 a4 a5 a6 a7 a8 a9 a10 a11 a12 a13 a14 a15 a16 a17 a18 := by
  unfold wL_lawOf_1031
  refine br_t hz ?_
  by_cases c : n = 0 ∨ (n = 1 ∧ z = y)
  · have all := (rc_k3_id0 hx hy hzz hxy hn).mpr c
    refine rc_Lid 0 1 hn hK (show 0 < 2 by decide) (rs := [(0, x, z, 31, 16)]) rfl (fun _ => rfl) (fun h => absurd h (rc_all_not all)) (fun _ _ _ _ _ _ _ _ _ _ _ _ _ _ _ _ _ _ _ => ?_)
    refine pk_eq n 0 (fun q => ?_) (fun q => pk_eq n 1 (fun q1 => pk_eq z y (fun q2 => ?_) (fun q2 => absurd c (by omega))) (fun q1 => absurd c (by omega)))
    · unfold wL_lawOf_1060
      exact rc_l1065 hx hy hzz hxy hn hK rfl H
    · unfold wL_lawOf_1060
      exact rc_l1065 hx hy hzz hxy hn hK rfl H
  · refine rc_Lid 0 0 hn hK (show 0 < 2 by decide) (rs := [(0, x, z, 31, 16)]) rfl (fun h => absurd ((rc_k3_id0 hx hy hzz hxy hn).mp h) c) (fun _ => rfl) (fun _ _ _ _ _ _ _ _ _ _ _ _ _ _ _ _ _ _ _ => ?_)
    refine pk_eq n 0 (fun q => absurd (Or.inl q) c) (fun q => pk_eq n 1 (fun q1 => pk_eq z y (fun q2 => absurd (Or.inr ⟨q1, q2⟩) c) (fun q2 => ?_)) (fun q1 => ?_))
    · unfold wL_lawOf_1064
      exact rc_l1065 hx hy hzz hxy hn hK rfl H
    · unfold wL_lawOf_1064
      exact rc_l1065 hx hy hzz hxy hn hK rfl H
theorem rc_l998 {post : Int32 → St0 → Prop} {mc ms kc ks : Nat} {ru sz li co go re wa fo la : Int32} {a1 a2 a3 a4 a5 a6 a7 a8 a9 a10 a11 a12 a13 : Nat → Int32} {a14 : Nat → Int64} {a15 : Nat → Int32} {a16 : Nat → Int64} {a17 a18 : Nat → Int32} {x y z n : Nat} {W : List Nat} (hx : x < 4) (hy : y < 4) (hzz : z < 4) (hxy : x ≠ y) (hn : n ≤ 5) (hK : rc_K [(0, x, y, 16, 31), (0, x, z, 31, 16)] W ru sz a1 a2 a3 a4 a5 a6) (H : post 1 ()) : wL_lawOf_998 post mc ms (nI x) (nI y) (nI z) (nI n) kc ks ru sz li co go re wa fo la a1 a2 a3 a4 a5 a6 a7 a8 a9 a10 a11 a12 a13 a14 a15 a16 a17 a18 := by
  unfold wL_lawOf_998
  by_cases c : n = 1 ∧ y ≠ z ∧ z ≠ x
  · have ex : ∃ u, u ∈ rc_words n ∧ rc_F [(0, x, z, 31, 16), (0, x, y, 16, 31)] u ≠ rc_F [(0, x, y, 16, 31), (0, x, z, 31, 16)] u := by
      rw [c.1]
      exact rc_k3_com0 hx hy hzz hxy c.2
    refine rc_Lco 0 hn hK (fun h => absurd ex (rc_all_not h)) (fun _ => rfl) (fun _ _ _ _ _ _ _ _ _ _ _ _ _ _ _ _ _ _ _ => ?_)
    refine pk_eq n 1 (fun _ => pk_eq y z (fun q => absurd q c.2.1) (fun _ => pk_eq z x (fun q => absurd q c.2.2) (fun _ => ?_))) (fun q => absurd c.1 q)
    exact rc_l1031 hx hy hzz hxy hn hK rfl H
  · have all := rc_k3_com1 hx hy hzz hxy hn c
    refine rc_Lco 1 hn hK (fun _ => rfl) (fun h => absurd h (rc_all_not all)) (fun _ _ _ _ _ _ _ _ _ _ _ _ _ _ _ _ _ _ _ => ?_)
    refine pk_eq n 1 (fun q1 => pk_eq y z (fun q => ?_) (fun q2 => pk_eq z x (fun q => ?_) (fun q => absurd ⟨q1, q2, q⟩ c))) (fun q => ?_)
    · unfold wL_lawOf_1030
      exact rc_l1031 hx hy hzz hxy hn hK rfl H
    · unfold wL_lawOf_1030
      exact rc_l1031 hx hy hzz hxy hn hK rfl H
    · unfold wL_lawOf_1030
      exact rc_l1031 hx hy hzz hxy hn hK rfl H
theorem rc_l986 {post : Int32 → St0 → Prop} {mc ms kc ks : Nat} {ru sz li co go re wa fo la : Int32} {a1 a2 a3 a4 a5 a6 a7 a8 a9 a10 a11 a12 a13 : Nat → Int32} {a14 : Nat → Int64} {a15 : Nat → Int32} {a16 : Nat → Int64} {a17 a18 : Nat → Int32} {x y z n : Nat} {W : List Nat} {z0 z1 : Int32} (hx : x < 4) (hy : y < 4) (hzz : z < 4) (hxy : x ≠ y) (hn : n ≤ 5) (hK : rc_K [(0, x, y, 16, 31), (0, x, z, 31, 16)] W ru sz a1 a2 a3 a4 a5 a6) (hz : z ≠ x → z1 = z0) (H : post 1 ()) : wL_lawOf_986 post mc ms (nI x) (nI y) (nI z) (nI n) z0 z1 kc ks ru sz li co go re wa fo la a1 a2 a3 a4 a5 a6 a7 a8 a9 a10 a11 a12 a13 a14 a15 a16 a17 a18 := by
  unfold wL_lawOf_986
  refine br_c (fun _ => rc_l998 hx hy hzz hxy hn hK H) (fun q => pk_eq z x (fun _ => rc_l998 hx hy hzz hxy hn hK H) (fun c => absurd (hz c) q))
end
section
/-! the law's loops -/
def rc_tp : Nat → Nat
  | 0 => 0
  | k + 1 => rc_tp k + 3 ^ k
theorem rc_tp_th : ∀ n, n < 6 → rc_tp (n + 1) = rc_th n := by decide
theorem rc_l162 {post : Int32 → St0 → Prop} {mc ms kc ks : Nat} {x y z n m k : Nat} {W : List Nat} {ru sz li co go re wa fo la : Int32} {a1 a2 a3 a4 a5 a6 a7 a8 a9 a10 a11 a12 a13 : Nat → Int32} {a14 : Nat → Int64} {a15 : Nat → Int32} {a16 : Nat → Int64} {a17 a18 : Nat → Int32} (hx : x < 4) (hy : y < 4) (hz : z < 4) (hxy : x ≠ y) (hn : n ≤ 5) (hm : m ≤ 5) (hk : k < 4) (hWm : W.length = m) (hW : ∀ q, q ∈ W → q < 4) (hK : rc_K [] W ru sz a1 a2 a3 a4 a5 a6) (H : post 1 ()) (d : Nat) : ∀ (f i : Nat), d < f → i + d = n + 1 → wL_lawOf_162 post mc ms (nI x) (nI y) (nI z) (nI n) (nI m) (nI k) (nI (W.count x)) (nI (W.count y)) (nI (rc_code W)) kc ks ru sz li co go re wa fo la a1 a2 a3 a4 a5 a6 a7 a8 a9 a10 a11 a12 a13 a14 a15 a16 a17 a18 f (nI (rc_tp i)) (nI i) := by
  have cx : W.count x ≤ 5 := Nat.le_trans List.count_le_length (by omega)
  have cy : W.count y ≤ 5 := Nat.le_trans List.count_le_length (by omega)
  have hl := rc_code_lt W hW
  have h45 : 4 ^ W.length ≤ 4 ^ 5 := Nat.pow_le_pow_right (by omega) (by omega)
  have h55 : (4 : Nat) ^ 5 = 1024 := by decide
  induction d with
  | zero =>
    intro f i hf hi
    cases f with
    | zero => exact absurd hf (by omega)
    | succ f =>
      have hi' : i = n + 1 := by omega
      subst hi'
      rw [rc_tp_th n (by omega)]
      refine pk_lt n (n + 1) (fun _ => ?_) (fun q => absurd q (by omega))
      refine pk_eq k 0 (fun _ => ?_) (fun k0 => pk_eq k 1 (fun _ => ?_) (fun k1 => pk_eq k 2 (fun _ => ?_) (fun k2 => ?_)))
      · refine rc_Lr0 1023 [(0, x, y, 31, 31)] hx hy (by decide) hK (show 0 < 5 by decide) rfl (fun _ _ _ _ _ _ hK => br_t rfl ?_)
        refine rc_Lim hn hK (rc_k0_im hx hy hxy hn) (fun _ _ _ _ _ _ _ _ _ _ _ _ _ _ _ _ _ _ _ => rc_pow 3 n hn (br_t rfl ?_))
        refine rc_Lst hn hK (rc_k0_still hx hxy hn) (fun _ _ _ _ _ _ _ _ _ _ _ _ _ _ _ _ _ _ _ => rc_pow 3 n hn (br_t rfl ?_))
        refine rc_Lso hn hK (rc_k0_src hx hy hxy hn hW) (fun _ _ _ _ _ _ _ _ _ _ _ _ _ _ _ _ _ _ _ => ?_)
        refine pk_eq n m (fun q => pk_le (W.count x) 0 (fun q2 => rc_pow 2 (W.count y) cy ?_) (fun q2 => ?_)) (fun q => ?_)
        · rw [if_pos ⟨by omega, by omega⟩]
          exact rc_l269 hx hy hxy hn hm hWm hW hK rfl H
        · rw [if_neg (by omega)]
          unfold wL_lawOf_259
          exact rc_l269 hx hy hxy hn hm hWm hW hK rfl H
        · rw [if_neg (by omega)]
          unfold wL_lawOf_259
          exact rc_l269 hx hy hxy hn hm hWm hW hK rfl H
      · refine rc_Lr1 1023 [(1, x, 0, 31, 31)] hx (by decide) hK (show 0 < 5 by decide) rfl (fun _ _ _ _ _ _ hK => br_t rfl ?_)
        refine rc_Lim hn hK (rc_k1_im hx hn) (fun _ _ _ _ _ _ _ _ _ _ _ _ _ _ _ _ _ _ _ => br_t rfl ?_)
        refine rc_Lst hn hK (rc_k1_still hx hn) (fun _ _ _ _ _ _ _ _ _ _ _ _ _ _ _ _ _ _ _ => rc_pow 3 n hn (br_t rfl ?_))
        refine rc_Lso hn hK (rc_k1_src hx hn hW) (fun _ _ _ _ _ _ _ _ _ _ _ _ _ _ _ _ _ _ _ => ?_)
        refine pk_le (W.count x) 0 (fun q => ?_) (fun q => ?_)
        · rw [if_pos (by omega), hWm]
          exact rc_choose hn hm (rc_l576 hx hn (by omega) hW hK rfl H)
        · rw [if_neg (by omega)]
          exact rc_l576 hx hn (by omega) hW hK rfl H
      · refine rc_Lr2 543 [(2, 0, x, 31, 16)] hx (by decide) hK (show 0 < 5 by decide) rfl (fun _ _ _ _ _ _ hK => br_t rfl ?_)
        refine rc_Lim hn hK (rc_k2_im hx hn) (fun _ _ _ _ _ _ _ _ _ _ _ _ _ _ _ _ _ _ _ => rc_pow 4 n hn (br_t rfl ?_))
        refine rc_Lst hn hK (rc_k2_still hn) (fun _ _ _ _ _ _ _ _ _ _ _ _ _ _ _ _ _ _ _ => br_t rfl ?_)
        refine rc_Laf 1 hK (show 1 ≤ 1 by decide) (V := W ++ [x]) (rc_k2_F (by omega) hW) (fun _ _ _ _ _ _ _ _ _ _ _ _ _ _ _ _ _ _ _ => br_t ?_ ?_)
        · rw [rc_code_app, ← nI_add, ← pk_mul]
          rfl
        refine rc_Lid 0 0 hn hK (show 0 < 1 by decide) (rs := []) rfl (fun h => absurd (rc_k2_idle hx hn) (rc_all_not h)) (fun _ => rfl) (fun _ _ _ _ _ _ _ _ _ _ _ _ _ _ _ _ _ _ _ => br_t rfl ?_)
        refine pk_le m 0 (fun q => ?_) (fun q => ?_)
        · refine rc_l760 hx hn hm hWm hW hK (fun V e he => ?_) H
          have := congrArg List.length he
          simp at this
          omega
        · refine rc_l760 hx hn hm hWm hW hK (fun V e he => ?_) H
          have he4 : e < 4 := hW e (by rw [he]; simp)
          have hb : rc_code W < 2 ^ 32 := by omega
          rw [he, rc_code_app] at hb ⊢
          have hand : nI (4 * rc_code V + e) &&& 3 = nI ((4 * rc_code V + e) % 2 ^ 2) := pk_andN (by omega) 2 (by decide)
          rw [hand]
          congr 1
          omega
      · have hk3 : k = 3 := by omega
        refine rc_Lr0 1008 [(0, x, y, 16, 31)] hx hy (by decide) hK (show 0 < 5 by decide) rfl (fun _ _ _ _ _ _ hK => br_t rfl ?_)
        refine rc_Lr0 543 [(0, x, y, 16, 31), (0, x, z, 31, 16)] hx hz (by decide) hK (show 1 < 5 by decide) rfl (fun _ _ _ _ _ _ hK => br_t rfl ?_)
        refine rc_Lst hn hK rfl (fun _ _ _ _ _ _ _ _ _ _ _ _ _ _ _ _ _ _ _ => ?_)
        refine pk_le 2 n (fun q => ?_) (fun q => ?_)
        · refine rc_pow 4 (n - 2) (by omega) ?_ (pk_sub (b := 2) (by omega))
          refine rc_l986 hx hy hz hxy hn hK (fun c => ?_) H
          rw [rc_k3_still hx hy hz hxy c hn, if_neg (by omega)]
          exact (pk_mul 9 _).symm
        · refine rc_pow 3 n hn ?_
          refine rc_l986 hx hy hz hxy hn hK (fun c => ?_) H
          rw [rc_k3_still hx hy hz hxy c hn, if_pos (by omega)]
  | succ d ih =>
    intro f i hf hi
    cases f with
    | zero => exact absurd hf (by omega)
    | succ f =>
      refine pk_lt n i (fun q => absurd q (by omega)) (fun _ => ?_)
      refine rc_pow 3 i (by omega) (nm_r (nI_add _ _) (nm_r (nI_1 i) ?_))
      exact ih f (i + 1) (by omega) (by omega)
theorem rc_l89 {post : Int32 → St0 → Prop} {mc ms kc ks : Nat} {x y z n m k : Nat} {x3 : Int32} (hx : x < 4) (hy : y < 4) (hz : z < 4) (hxy : x ≠ y) (hn : n ≤ 5) (hm : m ≤ 5) (hk : k < 4) (H : post 1 ()) (d : Nat) : ∀ (f i : Nat) (W : List Nat) {ru sz li co go re wa fo la : Int32} {a1 a2 a3 a4 a5 a6 a7 a8 a9 a10 a11 a12 a13 : Nat → Int32} {a14 : Nat → Int64} {a15 : Nat → Int32} {a16 : Nat → Int64} {a17 a18 : Nat → Int32}, d < f → i + d = m → W.length = i → (∀ q, q ∈ W → q < 4) → rc_K [] W ru sz a1 a2 a3 a4 a5 a6 →
    wL_lawOf_89 post mc ms x3 (nI x) (nI y) (nI z) (nI n) (nI m) (nI k) kc ks f (nI (W.count x)) (nI (W.count y)) (nI i) ru sz li co go re wa fo la a1 a2 a3 a4 a5 a6 a7 a8 a9 a10 a11 a12 a13 a14 a15 a16 a17 a18 := by
  induction d with
  | zero =>
    intro f i W ru sz li co go re wa fo la a1 a2 a3 a4 a5 a6 a7 a8 a9 a10 a11 a12 a13 a14 a15 a16 a17 a18 hf hi hWi hW hK
    cases f with
    | zero => exact absurd hf (by omega)
    | succ f =>
      have hi' : i = m := by omega
      subst hi'
      refine pk_le i i (fun _ => ?_) (fun q => absurd q (by omega))
      refine rc_Laf 0 hK (Nat.zero_le _) (V := W) (rc_F0 (by omega)) (fun _ _ _ _ _ _ _ _ _ _ _ _ _ _ _ _ _ _ _ => ⟨n + 2, ?_⟩)
      exact rc_l162 hx hy hz hxy hn hm hk hWi hW hK H (n + 1) (n + 2) 0 (by omega) (by omega)
  | succ d ih =>
    intro f i W ru sz li co go re wa fo la a1 a2 a3 a4 a5 a6 a7 a8 a9 a10 a11 a12 a13 a14 a15 a16 a17 a18 hf hi hWi hW hK
    cases f with
    | zero => exact absurd hf (by omega)
    | succ f =>
      refine pk_le m i (fun q => absurd q (by omega)) (fun _ => ?_)
      obtain ⟨l, hl, el⟩ := pk_andE (x3 >>> ((2 * nI i) &&& 31)) (m := 3) 2 (by decide)
      have hl4 : l < 4 := hl
      have push : wL_lawOf_126 post mc ms (wL_lawOf_89 post mc ms x3 (nI x) (nI y) (nI z) (nI n) (nI m) (nI k) kc ks f) x3 (nI x) (nI y) (nI z) (nI n) (nI m) (nI k) (nI ((W ++ [l]).count x)) (nI ((W ++ [l]).count y)) (nI i) (nI l) kc ks ru sz li co go re wa fo la a1 a2 a3 a4 a5 a6 a7 a8 a9 a10 a11 a12 a13 a14 a15 a16 a17 a18 := by
        unfold wL_lawOf_126
        refine rc_push hl4 (by omega) hK (fun _ _ hK => br_t ?_ (nm_r (nI_1 i) ?_))
        · rw [hWi, nI_1]
        · refine ih f (i + 1) (W ++ [l]) (by omega) (by omega) (by rw [List.length_append, hWi]; rfl) (fun q hq => ?_) hK
          rcases List.mem_append.mp hq with z | z
          · exact hW q z
          · rw [List.mem_singleton.mp z]; exact hl4
      have c1 : ∀ a, (W ++ [l]).count a = W.count a + (if l = a then 1 else 0) := by
        intro a
        rw [List.count_append, List.count_singleton]
        congr 1
        by_cases q : l = a
        · simp [q]
        · simp [q]
      have e116 : ∀ v, v = nI ((W ++ [l]).count x) → wL_lawOf_116 post mc ms (wL_lawOf_89 post mc ms x3 (nI x) (nI y) (nI z) (nI n) (nI m) (nI k) kc ks f) x3 (nI x) (nI y) (nI z) (nI n) (nI m) (nI k) v (nI (W.count y)) (nI i) (nI l) kc ks ru sz li co go re wa fo la a1 a2 a3 a4 a5 a6 a7 a8 a9 a10 a11 a12 a13 a14 a15 a16 a17 a18 := by
        intro v hv
        subst hv
        unfold wL_lawOf_116
        refine pk_eq l y (fun q => nm_r (nI_1 _) ?_) (fun q => ?_)
        · rw [c1 y, if_pos q] at push
          exact push
        · rw [c1 y, if_neg q] at push
          exact push
      refine nm_r el (pk_eq l x (fun q => nm_r (nI_1 _) ?_) (fun q => ?_))
      · exact e116 _ (by rw [c1 x, if_pos q])
      · exact e116 _ (by rw [c1 x, if_neg q]; rfl)
theorem rc_l53 {post : Int32 → St0 → Prop} {mc ms kc ks : Nat} {x y z : Nat} {x2 x3 x4 x5 : Int32} {ru sz li co go re wa fo la : Int32} {a1 a2 a3 a4 a5 a6 a7 a8 a9 a10 a11 a12 a13 : Nat → Int32} {a14 : Nat → Int64} {a15 : Nat → Int32} {a16 : Nat → Int64} {a17 a18 : Nat → Int32} (hx : x < 4) (hy : y < 4) (hz : z < 4) (hxy : x ≠ y) (hK : rc_K [] [] ru sz a1 a2 a3 a4 a5 a6) (H : post 1 ()) : wL_lawOf_53 post mc ms x2 x3 x4 x5 (nI x) (nI y) (nI z) kc ks ru sz li co go re wa fo la a1 a2 a3 a4 a5 a6 a7 a8 a9 a10 a11 a12 a13 a14 a15 a16 a17 a18 := by
  obtain ⟨p, hp, ep⟩ := pk_andE x2 (m := 127) 7 (by decide)
  obtain ⟨q, hq, eq⟩ := pk_andE x4 (m := 127) 7 (by decide)
  obtain ⟨k, hk, ek⟩ := pk_andE x5 (m := 3) 2 (by decide)
  unfold wL_lawOf_53
  rw [ep, eq, ek]
  refine ⟨by decide, nm_r (e' := nI (p % 6)) (pk_rem (d := 6) (by omega) (by decide) (by decide)) ⟨by decide, nm_r (e' := nI (q % 6)) (pk_rem (d := 6) (by omega) (by decide) (by decide)) (nm_e ⟨q % 6 + 1, ?_⟩)⟩⟩
  exact rc_l89 hx hy hz hxy (by omega) (by omega) hk H (q % 6) (q % 6 + 1) 0 [] (by omega) (by omega) rfl (by simp) hK
theorem rc_law {post : Int32 → St0 → Prop} {p0 p1 p2 p3 p4 p5 : Int32} (H : post 1 ()) : wpL_lawOf post 100 10000 () p0 p1 p2 p3 p4 p5 := by
  unfold wpL_lawOf
  refine ⟨by decide, by decide, 50, 9000, by decide, by decide, ?_⟩
  unfold wpX_init
  refine ⟨by decide, by decide, by decide, by decide, by decide, by decide, by decide, by decide, by decide, by decide, by decide, by decide, by decide, by decide, by decide, by decide, by decide, by decide, by decide, by decide, by decide, by decide, by decide, by decide, by decide, by decide, by decide, by decide, by decide, by decide, by decide, by decide, by decide, by decide, by decide, by decide, ?_⟩
  obtain ⟨x, hx, ex⟩ := pk_andE p0 (m := 3) 2 (by decide)
  obtain ⟨t, ht, et⟩ := pk_andE p1 (m := 127) 7 (by decide)
  have hx4 : x < 4 := hx
  have hK : rc_K [] [] 0 0 (fun _ => 0) (fun _ => 0) (fun _ => 0) (fun _ => 0) (fun _ => 0) (fun _ => 0) := ⟨rfl, by decide, by simp, by simp, rfl, by decide, rc_A_nil _⟩
  refine nm_r ex ⟨by decide, nm_r (e' := nI ((x + 1 + t % 3) % 4)) ?_ ?_⟩
  · rw [et, nI_1]
    have e1 : nI t - nI t / 3 * 3 = nI (t % 3) := pk_rem (d := 3) (by omega) (by decide) (by decide)
    rw [e1, nI_add]
    exact pk_andN (by omega) 2 (by decide)
  · have hy4 : (x + 1 + t % 3) % 4 < 4 := Nat.mod_lt _ (by decide)
    have hxy : x ≠ (x + 1 + t % 3) % 4 := by omega
    refine br_c (fun _ => ?_) (fun _ => ?_)
    · obtain ⟨z, hz, ez⟩ := pk_andE ((6 - nI x) - nI ((x + 1 + t % 3) % 4)) (m := 3) 2 (by decide)
      rw [ez]
      exact rc_l53 hx4 hy4 hz hxy hK H
    · exact rc_l53 hx4 hy4 hx4 hxy hK H
theorem rc_cell {post : Int32 → Prop} {L : Nat} {xs : Nat → Int32} {p : Int32} (n : Nat) (hL : L ≤ 6) (hn : n < 6) (H : ∀ v, post v) (hp : p = nI n := by rfl) : wpL_cellAt post L xs () p := by
  subst hp
  unfold wpL_cellAt
  refine pk_le L n (fun _ => H _) (fun q => ⟨pk_in n L q rfl (by omega), H _⟩)
theorem i_vc (xs : Nat → Int32) (L : Nat) (hL : L ≤ 6) : wpL_law (fun r => r = 1) L xs := by
  unfold wpL_law
  refine rc_cell 0 hL (by decide) (fun r1 => rc_cell 1 hL (by decide) (fun r2 => rc_cell 2 hL (by decide) (fun r3 => rc_cell 3 hL (by decide) (fun r4 => rc_cell 4 hL (by decide) (fun r5 => rc_cell 5 hL (by decide) (fun r6 => ⟨100, 10000, by decide, by decide, ?_⟩))))))
  exact rc_law rfl
end
