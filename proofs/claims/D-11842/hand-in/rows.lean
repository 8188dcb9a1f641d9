section
/-- forces a bit: the same as F x -/
def mt_nm {α : Type} (x : Int32) (F : Int32 → α) : α := if x = 0 then F 0 else if x = 1 then F 1 else F x
theorem mt_nm_eq {α : Type} (x : Int32) (F : Int32 → α) : mt_nm x F = F x := by
  unfold mt_nm
  by_cases h : x = 0
  · rw [if_pos h, h]
  · rw [if_neg h]
    by_cases h1 : x = 1
    · rw [if_pos h1, h1]
    · rw [if_neg h1]
/-- hold, behind its first test -/
def mt_h2 (k b o : Int32) : Int32 := if k < 10 then b else if o = (k - 10) / 2 then (k - 10) &&& 1 else b
/-- hold: the new bit -/
def mt_hold (k b o : Int32) : Int32 := if k = 0 then mt_h2 k k o else if k = 1 then mt_h2 k k o else mt_h2 k b o
/-- writeOther, its last test: rises x3, falls x4 -/
def mt_84 (k b x3 x4 : Int32) : Int32 := if k < 6 then b else if 10 ≤ k then b else if 8 ≤ k then (if x4 = 0 then b else (k - 6) &&& 1) else (if x3 = 0 then b else (k - 6) &&& 1)
def mt_61 (k b x3 x4 : Int32) : Int32 := if x4 = 0 then mt_84 k b x3 x4 else if k = 5 then mt_84 k (1 - b) x3 x4 else mt_84 k b x3 x4
def mt_47 (k b x3 x4 : Int32) : Int32 := if x3 = 0 then mt_61 k b x3 x4 else if k = 4 then mt_84 k (1 - b) x3 x4 else mt_61 k b x3 x4
def mt_13 (k b o v : Int32) : Int32 := if o = v then mt_47 k b 0 0 else if v = 1 then mt_47 k b 1 0 else if v = 0 then mt_47 k b 0 1 else mt_47 k b 0 0
/-- writeOther: the new bit (the other cell holds v) -/
def mt_wo (k b o v : Int32) : Int32 := mt_hold k (mt_13 k b o v) v
def mt_w1 (b v : Int32) : Int32 := if b = v then v else b
def mt_w3 (k b v : Int32) : Int32 := if k = 3 then (if v = 0 then mt_w1 b v else v) else v
def mt_w2 (k b v : Int32) : Int32 := if k = 2 then (if v = 1 then mt_w1 b v else mt_w3 k b v) else mt_w3 k b v
/-- writeOwn: the new bit -/
def mt_ww (k b o v : Int32) : Int32 := mt_hold k (mt_w2 k b v) o
/-- a READ: z is read, op - 2 expected -/
def mt_fl (z op f : Int32) : Int32 := if z = op - 2 then f ||| 0 else f ||| 1
/-- visit: a march's operations at a cell -/
def mt_visit (k x2 : Int32) : List Int32 → Int32 → Int32 → Int32 → Int32 × Int32 × Int32
  | [], b, o, f => (b, o, f)
  | op :: l, b, o, f => if op < 2 then (if x2 = 0 then mt_nm (mt_wo k b o op) (fun y => mt_visit k x2 l y op f) else mt_nm (mt_ww k b o op) (fun y => mt_visit k x2 l y o f)) else (if x2 = 0 then mt_nm (mt_fl o op f) (fun y => mt_visit k x2 l b o y) else mt_nm (mt_fl b op f) (fun y => mt_visit k x2 l b o y))
/-- one march -/
def mt_one (k z : Int32) (l : List Int32) (b o f : Int32) : Int32 × Int32 × Int32 :=
  if 4 ≤ k then (match mt_visit k z l b o f with | (b', o', f') => mt_visit k (if z = 0 then 1 else 0) l b' o' f') else mt_visit k 1 l b o f
def mt_x6 (bl d : Int32) : Int32 := if bl = (if d = 0 then 1 else 0) then 1 else 0
def mt_run (k bl : Int32) : List (Int32 × List Int32) → Int32 → Int32 → Int32 → Int32 × Int32 × Int32
  | [], b, o, f => (b, o, f)
  | (d, l) :: T, b, o, f => match mt_nm (mt_x6 bl d) (fun z => mt_one k z l b o f) with | (b', o', f') => mt_run k bl T b' o' f'
/-- runs: whether some READ failed -/
def mt_runs (k bl : Int32) (T : List (Int32 × List Int32)) (fi ot : Int32) : Int32 := mt_nm (mt_hold k fi ot) (fun y => (mt_run k bl T y ot 0).2.2)
def mt_cq (k bl : Int32) (T : List (Int32 × List Int32)) (fi ot : Int32) : Int32 := if mt_runs k bl T fi ot = 0 then 1 else 0
/-- quiet -/
def mt_q (T : List (Int32 × List Int32)) : Int32 := 0 + mt_cq (-1) 1 T 0 0 + mt_cq (-1) 1 T (0 + 1) 0
def mt_cs (k bl : Int32) (T : List (Int32 × List Int32)) (x : Int32) : Int32 := if 4 ≤ k then mt_cq k bl T (x &&& 1) (x >>> ((1 : Int32) &&& 31)) else if 2 ≤ x then 0 else mt_cq k bl T (x &&& 1) (x >>> ((1 : Int32) &&& 31))
def mt_n (k bl : Int32) (T : List (Int32 × List Int32)) : Int32 := 0 + mt_cs k bl T 0 + mt_cs k bl T (0 + 1) + mt_cs k bl T (0 + 1 + 1) + mt_cs k bl T (0 + 1 + 1 + 1)
/-- silent -/
def mt_sil (k bl : Int32) (T : List (Int32 × List Int32)) : Int32 := if k < 4 then mt_n k bl T * mt_q T * mt_q T * mt_q T * mt_q T else mt_n k bl T * mt_q T * mt_q T * mt_q T
/-- isFound -/
def mt_if (k bl : Int32) (T : List (Int32 × List Int32)) : Int32 := if mt_sil k bl T = 0 then 1 else 0
def mt_hf (k : Int32) : Int32 := if 4 ≤ k then 10 else 5
def mt_fd1 (k : Int32) (T : List (Int32 × List Int32)) : Int32 := if mt_if k 1 T = 0 then 0 else mt_hf k
/-- found, of a kind that there is -/
def mt_fd (k : Int32) (T : List (Int32 × List Int32)) : Int32 := if k < 4 then mt_fd1 k T else if mt_if k 0 T = 0 then mt_fd1 k T else mt_fd1 k T + mt_hf k
def mt_all (k : Int32) : Int32 := if 4 ≤ k then 20 else 5
def mt_cvv (T : List (Int32 × List Int32)) (x : Int32) : Int32 := if mt_fd x T = mt_all x then (1 : Int32) <<< (x &&& 31) else 0
/-- covered, the first i kinds -/
def mt_cvs (T : List (Int32 × List Int32)) : Nat → Int32
  | 0 => 0
  | i + 1 => mt_cvs T i ||| mt_cvv T (nI i)
/-- steps -/
def mt_sp : List (Int32 × List Int32) → Int32 → Int32
  | [], x => x
  | (_, l) :: T, x => mt_sp T (x + 5 * nI l.length)
/-- the law's test -/
def mt_full (b w : Int32) : List (Int32 × List Int32) := [(w, [b]), (w, [2 + b, 1 - b]), (w, [2 + (1 - b), 1 - (1 - b)]), (1 - w, [2 + b, 1 - b]), (1 - w, [2 + (1 - b), 1 - (1 - b)]), (w, [2 + b])]
/-- the law's test behind the two drops -/
def mt_five (b w : Int32) : List (Int32 × List Int32) := [(w, [b]), (w, [2 + b, 1 - b]), (w, [2 + (1 - b), 1 - (1 - b)]), (1 - w, [2 + b, 1 - b]), (1 - w, [2 + (1 - b), 1 - (1 - b)])]
/-- and behind the two turns -/
def mt_turned (b w : Int32) : List (Int32 × List Int32) := [(w, [b]), (w, [2 + b, 1 - b]), (w, [2 + (1 - b), 1 - (1 - b)]), (1 - (1 - w), [2 + b, 1 - b]), (1 - (1 - w), [2 + (1 - b), 1 - (1 - b)])]
theorem mt_f0 : mt_q [] = 2 ∧ mt_cvs [] 14 = 0 ∧ mt_sp [] 0 = 0 := by decide +kernel
theorem mt_f1q : ∀ b, b ∈ [(0 : Int32), 1] → ∀ w, w ∈ [(0 : Int32), 1] → mt_q (mt_full b w) = 2 ∧ mt_sp (mt_full b w) 0 = 50 := by decide +kernel
theorem mt_f1c : ∀ b, b ∈ [(0 : Int32), 1] → ∀ w, w ∈ [(0 : Int32), 1] → mt_cvs (mt_full b w) 14 = 16383 := by decide +kernel
theorem mt_f1k : ∀ b, b ∈ [(0 : Int32), 1] → ∀ w, w ∈ [(0 : Int32), 1] → ∀ k, k < 14 → mt_fd (nI k) (mt_full b w) = mt_all (nI k) ∧ mt_sil (nI k) 0 (mt_full b w) = 0 ∧ mt_sil (nI k) 1 (mt_full b w) = 0 := by decide +kernel
theorem mt_f2 : ∀ b, b ∈ [(0 : Int32), 1] → ∀ w, w ∈ [(0 : Int32), 1] → mt_q (mt_five b w) = 2 ∧ mt_sp (mt_five b w) 0 = 45 ∧ mt_fd 0 (mt_five b w) = 5 ∧ mt_fd 1 (mt_five b w) = 5 ∧ mt_fd (2 + b) (mt_five b w) = 5 := by decide +kernel
theorem mt_f3 : ∀ b, b ∈ [(0 : Int32), 1] → ∀ w, w ∈ [(0 : Int32), 1] → mt_q (mt_turned b w) = 2 ∧ mt_fd b (mt_turned b w) = 5 := by decide +kernel
end
section
section
variable {post : St2 → Prop} {c w k b o f : Int32} {a1 a2 a3 : Nat → Int32}
theorem mt_h23 (h : post (c, w, k, mt_h2 k b o, o, f, a1, a2, a3)) : wX_hold_23 post c w k b o f a1 a2 a3 := by
  unfold mt_h2 at h
  refine br_c (fun e => ?_) (fun e => ⟨by decide, br_c (fun e2 => nm_e ?_) (fun e2 => ?_)⟩)
  · rw [if_pos e] at h; exact h
  · rw [if_neg e, if_pos e2] at h; exact h
  · rw [if_neg e, if_neg e2] at h; exact h
theorem mt_hold_ok (h : post (c, w, k, mt_hold k b o, o, f, a1, a2, a3)) : wpX_hold post (c, w, k, b, o, f, a1, a2, a3) := by
  unfold mt_hold at h
  refine br_c (fun e => ?_) (fun e => br_c (fun e2 => ?_) (fun e2 => ?_))
  · rw [if_pos e] at h; exact mt_h23 h
  · rw [if_neg e, if_pos e2] at h; exact mt_h23 h
  · rw [if_neg e, if_neg e2] at h; exact mt_h23 h
theorem mt_l148 (h : post (c, w, k, mt_hold k b o, o, f, a1, a2, a3)) : wX_writeOther_148 post c w k b o f a1 a2 a3 := by
  unfold wX_writeOther_148
  refine mt_hold_ok ?_
  exact h
theorem mt_l127 (h : post (c, w, k, mt_hold k b o, o, f, a1, a2, a3)) : wX_writeOther_127 post c w k b o f a1 a2 a3 := by
  unfold wX_writeOther_127 wX_writeOther_128
  exact br_t rfl (mt_l148 h)
theorem mt_l123 (h : post (c, w, k, mt_hold k ((k - 6) &&& 1) o, o, f, a1, a2, a3)) : wX_writeOther_123 post c w k b o f a1 a2 a3 := by
  unfold wX_writeOther_123 wX_writeOther_128
  exact br_f (by decide) (nm_e (mt_l148 h))
theorem mt_l84 {x3 x4 : Int32} (h : post (c, w, k, mt_hold k (mt_84 k b x3 x4) o, o, f, a1, a2, a3)) : wX_writeOther_84 post x3 x4 c w k b o f a1 a2 a3 := by
  unfold mt_84 at h
  unfold wX_writeOther_84
  refine br_c (fun e => ?_) (fun e => br_c (fun e2 => ?_) (fun e2 => br_c (fun e3 => br_c (fun e4 => ?_) (fun e4 => ?_)) (fun e3 => br_c (fun e4 => ?_) (fun e4 => ?_))))
  · rw [if_pos e] at h; exact mt_l127 h
  · rw [if_neg e, if_pos e2] at h; exact mt_l127 h
  · rw [if_neg e, if_neg e2, if_pos e3, if_pos e4] at h; exact mt_l127 h
  · rw [if_neg e, if_neg e2, if_pos e3, if_neg e4] at h; exact mt_l123 h
  · rw [if_neg e, if_neg e2, if_neg e3, if_pos e4] at h; exact mt_l127 h
  · rw [if_neg e, if_neg e2, if_neg e3, if_neg e4] at h; exact mt_l123 h
theorem mt_l74 {x3 x4 : Int32} (h : post (c, w, k, mt_hold k (mt_84 k (1 - b) x3 x4) o, o, f, a1, a2, a3)) : wX_writeOther_74 post x3 x4 c w k b o f a1 a2 a3 := by
  unfold wX_writeOther_74
  exact nm_e (mt_l84 h)
theorem mt_l61 {x3 x4 : Int32} (h : post (c, w, k, mt_hold k (mt_61 k b x3 x4) o, o, f, a1, a2, a3)) : wX_writeOther_61 post x3 x4 c w k b o f a1 a2 a3 := by
  unfold mt_61 at h
  unfold wX_writeOther_61
  refine br_c (fun e => ?_) (fun e => br_c (fun e2 => ?_) (fun e2 => ?_))
  · rw [if_pos e] at h; exact mt_l84 h
  · rw [if_neg e, if_pos e2] at h; exact mt_l74 h
  · rw [if_neg e, if_neg e2] at h; exact mt_l84 h
theorem mt_l47 {x3 x4 : Int32} (h : post (c, w, k, mt_hold k (mt_47 k b x3 x4) o, o, f, a1, a2, a3)) : wX_writeOther_47 post x3 x4 c w k b o f a1 a2 a3 := by
  unfold mt_47 at h
  unfold wX_writeOther_47
  refine br_c (fun e => ?_) (fun e => br_c (fun e2 => ?_) (fun e2 => ?_))
  · rw [if_pos e] at h; exact mt_l61 h
  · rw [if_neg e, if_pos e2] at h; exact mt_l74 h
  · rw [if_neg e, if_neg e2] at h; exact mt_l61 h
theorem mt_wo_ok {v : Int32} (h : post (c, w, k, mt_wo k b o v, v, f, a1, a2, a3)) : wpX_writeOther post (c, w, k, b, o, f, a1, a2, a3) v := by
  unfold mt_wo mt_13 at h
  refine br_c (fun e => ?_) (fun e => ?_)
  · rw [if_pos e] at h
    unfold wX_writeOther_13 wX_writeOther_32 wX_writeOther_33 wX_writeOther_46
    exact br_t rfl (br_t rfl (mt_l47 h))
  · rw [if_neg e] at h
    unfold wX_writeOther_13
    refine br_f (by decide) (br_c (fun e2 => ?_) (fun e2 => ?_))
    · rw [if_pos e2] at h
      unfold wX_writeOther_33 wX_writeOther_46
      refine br_f (by decide) (br_f ?_ (mt_l47 h))
      rw [e2]; decide
    · rw [if_neg e2] at h
      unfold wX_writeOther_32 wX_writeOther_33 wX_writeOther_46
      refine br_f (by decide) (br_c (fun e3 => ?_) (fun e3 => ?_))
      · rw [if_pos e3] at h; exact mt_l47 h
      · rw [if_neg e3] at h; exact mt_l47 h
theorem mt_o52 {z : Int32} (h : post (c, w, k, mt_hold k z o, o, f, a1, a2, a3)) : wX_writeOwn_52 post z c w k b o f a1 a2 a3 := by
  unfold wX_writeOwn_52
  refine mt_hold_ok ?_
  exact h
theorem mt_o25 {v : Int32} (h : post (c, w, k, mt_hold k (mt_w1 b v) o, o, f, a1, a2, a3)) : wX_writeOwn_25 post v c w k b o f a1 a2 a3 := by
  unfold mt_w1 at h
  unfold wX_writeOwn_25 wX_writeOwn_30 wX_writeOwn_51
  refine br_f (by decide) (br_c (fun e => ?_) (fun e => ?_))
  · rw [if_pos e] at h; exact mt_o52 h
  · rw [if_neg e] at h; exact mt_o52 h
theorem mt_o29 {v : Int32} (h : post (c, w, k, mt_hold k v o, o, f, a1, a2, a3)) : wX_writeOwn_29 post v c w k b o f a1 a2 a3 := by
  unfold wX_writeOwn_29 wX_writeOwn_30 wX_writeOwn_51
  exact br_t rfl (mt_o52 h)
theorem mt_o13 {v : Int32} (h : post (c, w, k, mt_hold k (mt_w3 k b v) o, o, f, a1, a2, a3)) : wX_writeOwn_13 post v c w k b o f a1 a2 a3 := by
  unfold mt_w3 at h
  unfold wX_writeOwn_13
  refine br_c (fun e => br_c (fun e2 => ?_) (fun e2 => ?_)) (fun e => ?_)
  · rw [if_pos e, if_pos e2] at h; exact mt_o25 h
  · rw [if_pos e, if_neg e2] at h; exact mt_o29 h
  · rw [if_neg e] at h; exact mt_o29 h
theorem mt_ww_ok {v : Int32} (h : post (c, w, k, mt_ww k b o v, o, f, a1, a2, a3)) : wpX_writeOwn post (c, w, k, b, o, f, a1, a2, a3) v := by
  unfold mt_ww mt_w2 at h
  refine br_c (fun e => br_c (fun e2 => ?_) (fun e2 => ?_)) (fun e => ?_)
  · rw [if_pos e, if_pos e2] at h; exact mt_o25 h
  · rw [if_pos e, if_neg e2] at h; exact mt_o13 h
  · rw [if_neg e] at h; exact mt_o13 h
end
end
section
/-- the operations l lie in a3 from place p on -/
def mt_ops (a3 : Nat → Int32) : Nat → List Int32 → Prop
  | _, [] => True
  | p, op :: l => a3 p = op ∧ mt_ops a3 (p + 1) l
/-- the marches T lie in the arrays from march m on -/
def mt_T (a1 a2 a3 : Nat → Int32) : Nat → List (Int32 × List Int32) → Prop
  | _, [] => True
  | m, (d, l) :: T => (a1 m = d ∧ a2 m = nI l.length ∧ l.length ≤ 4 ∧ mt_ops a3 (m * 4) l) ∧ mt_T a1 a2 a3 (m + 1) T
/-- the object holds the test T -/
def mt_ok (T : List (Int32 × List Int32)) (c : Int32) (a1 a2 a3 : Nat → Int32) : Prop := T.length ≤ 6 ∧ c = nI T.length ∧ mt_T a1 a2 a3 0 T
def mt_b (f : Int32) : Prop := f = 0 ∨ f = 1
theorem mt_bool {f : Int32} (h : mt_b f) : narrow .boolean (.int f) = .int f ∧ fits .boolean (.int f) = true := by
  rcases h with h | h
  · rw [h]; exact ⟨by decide, by decide⟩
  · rw [h]; exact ⟨by decide, by decide⟩
theorem mt_or0 {f : Int32} (h : mt_b f) : mt_b (f ||| 0) := by
  rcases h with h | h
  · rw [h]; exact Or.inl (by decide)
  · rw [h]; exact Or.inr (by decide)
theorem mt_or1 {f : Int32} (h : mt_b f) : mt_b (f ||| 1) := by
  rcases h with h | h
  · rw [h]; exact Or.inr (by decide)
  · rw [h]; exact Or.inr (by decide)
theorem mt_flb {z op f : Int32} (h : mt_b f) : mt_b (mt_fl z op f) := by
  unfold mt_fl
  by_cases e : z = op - 2
  · rw [if_pos e]; exact mt_or0 h
  · rw [if_neg e]; exact mt_or1 h
section
variable {k x2 op : Int32} {l : List Int32} {b o f : Int32}
theorem mt_vc1 (e1 : op < 2) (e2 : x2 = 0) : mt_visit k x2 (op :: l) b o f = mt_visit k x2 l (mt_wo k b o op) op f := by
  rw [mt_visit, if_pos e1, if_pos e2, mt_nm_eq]
theorem mt_vc2 (e1 : op < 2) (e2 : ¬ x2 = 0) : mt_visit k x2 (op :: l) b o f = mt_visit k x2 l (mt_ww k b o op) o f := by
  rw [mt_visit, if_pos e1, if_neg e2, mt_nm_eq]
theorem mt_vc3 (e1 : ¬ op < 2) (e2 : x2 = 0) : mt_visit k x2 (op :: l) b o f = mt_visit k x2 l b o (mt_fl o op f) := by
  rw [mt_visit, if_neg e1, if_pos e2, mt_nm_eq]
theorem mt_vc4 (e1 : ¬ op < 2) (e2 : ¬ x2 = 0) : mt_visit k x2 (op :: l) b o f = mt_visit k x2 l b o (mt_fl b op f) := by
  rw [mt_visit, if_neg e1, if_neg e2, mt_nm_eq]
end
theorem mt_v50 {post : St2 → Prop} {J : Int32 → Int32 → Int32 → Int32 → Int32 → Int32 → Int32 → (Nat → Int32) → (Nat → Int32) → (Nat → Int32) → Prop} {x1 x2 op z c w k b o f : Int32} {i : Nat} {a1 a2 a3 : Nat → Int32} (hf : mt_b f)
    (H : J (nI (i + 1)) c w k b o (mt_fl z op f) a1 a2 a3) : wX_visit_50 post J x1 x2 (nI i) op z f c w k b o f a1 a2 a3 := by
  unfold mt_fl at H
  unfold wX_visit_50
  refine br_c (fun e => nm_e ⟨(mt_bool (mt_or0 hf)).1, (mt_bool (mt_or0 hf)).2, nm_r (nI_1 i) ?_⟩) (fun e => nm_e ⟨(mt_bool (mt_or1 hf)).1, (mt_bool (mt_or1 hf)).2, nm_r (nI_1 i) ?_⟩)
  · rw [if_pos e] at H; exact H
  · rw [if_neg e] at H; exact H
theorem mt_v2 {post : St2 → Prop} {m : Nat} (hm : m < 6) {x2 c w k : Int32} {a1 a2 a3 : Nat → Int32} : ∀ (l : List Int32) (i : Nat) (b o f : Int32) (n : Nat), i + l.length ≤ 4 → a2 m = nI (i + l.length) → mt_ops a3 (m * 4 + i) l → mt_b f → l.length < n →
    (∀ b' o' f', mt_visit k x2 l b o f = (b', o', f') → mt_b f' → post (c, w, k, b', o', f', a1, a2, a3)) → wX_visit_2 post (nI m) x2 n (nI i) c w k b o f a1 a2 a3 := by
  intro l
  induction l with
  | nil =>
    intro i b o f n hi h2 h3 hf hn H
    have hn' : 0 < n := hn
    have hi' : i ≤ 4 := hi
    have h2' : a2 m = nI i := h2
    obtain ⟨n, rfl⟩ : ∃ n', n = n' + 1 := ⟨n - 1, by omega⟩
    refine ⟨vp_in_nI hm (by omega), ?_⟩
    rw [nI_clamp (show m < 2 ^ 31 by omega), h2']
    exact br_t (nI_le (Nat.le_refl i) (by omega)) (H b o f rfl hf)
  | cons op l ih =>
    intro i b o f n hi h2 h3 hf hn H
    have hn' : l.length + 1 < n := hn
    have hi' : i + (l.length + 1) ≤ 4 := hi
    have h2' : a2 m = nI (i + (l.length + 1)) := h2
    have h2'' : a2 m = nI (i + 1 + l.length) := by rw [h2', show i + (l.length + 1) = i + 1 + l.length by omega]
    have h3a : a3 (m * 4 + i) = op := h3.1
    have h3b : mt_ops a3 (m * 4 + (i + 1)) l := h3.2
    have e : nI m * 4 + nI i = nI (m * 4 + i) := by rw [show (4 : Int32) = nI 4 from rfl, pk_mul, nI_add]
    obtain ⟨n, rfl⟩ : ∃ n', n = n' + 1 := ⟨n - 1, by omega⟩
    refine ⟨vp_in_nI hm (by omega), ?_⟩
    rw [nI_clamp (show m < 2 ^ 31 by omega), h2']
    refine br_f (nI_ge (by omega) (by omega)) ?_
    rw [e, nI_clamp (show m * 4 + i < 2 ^ 31 by omega)]
    refine ⟨vp_in_nI (by omega) (by omega), nm_r h3a ?_⟩
    refine br_c (fun e1 => br_c (fun e2 => mt_wo_ok ?_) (fun e2 => mt_ww_ok ?_)) (fun e1 => br_c (fun e2 => mt_v50 hf ?_) (fun e2 => mt_v50 hf ?_))
    · intro x ex
      rw [ex, nI_1]
      exact ih (i + 1) _ _ _ n (by omega) h2'' h3b hf (by omega) (fun b' o' f' z => H b' o' f' ((mt_vc1 e1 e2).trans z))
    · intro x ex
      rw [ex, nI_1]
      exact ih (i + 1) _ _ _ n (by omega) h2'' h3b hf (by omega) (fun b' o' f' z => H b' o' f' ((mt_vc2 e1 e2).trans z))
    · exact ih (i + 1) _ _ _ n (by omega) h2'' h3b (mt_flb hf) (by omega) (fun b' o' f' z => H b' o' f' ((mt_vc3 e1 e2).trans z))
    · exact ih (i + 1) _ _ _ n (by omega) h2'' h3b (mt_flb hf) (by omega) (fun b' o' f' z => H b' o' f' ((mt_vc4 e1 e2).trans z))
theorem mt_vis {post : St2 → Prop} {m : Nat} {l : List Int32} {x2 c w k b o f : Int32} {a1 a2 a3 : Nat → Int32} (hm : m < 6) (h2 : a2 m = nI l.length) (hl : l.length ≤ 4) (h3 : mt_ops a3 (m * 4) l) (hf : mt_b f)
    (H : ∀ b' o' f', mt_visit k x2 l b o f = (b', o', f') → mt_b f' → post (c, w, k, b', o', f', a1, a2, a3)) : wpX_visit post (c, w, k, b, o, f, a1, a2, a3) (nI m) x2 :=
  ⟨5, mt_v2 hm l 0 b o f 5 (by omega) (by rw [Nat.zero_add]; exact h2) h3 hf (by omega) H⟩
theorem mt_ne : ∀ m, m < 6 → ¬ nI m = -1 := by decide
section
variable {post : Int32 → St2 → Prop} {J : Int32 → Int32 → Int32 → Int32 → Int32 → Int32 → Int32 → (Nat → Int32) → (Nat → Int32) → (Nat → Int32) → Prop} {m : Nat} {l : List Int32} {z bl c k b o f : Int32} {a1 a2 a3 : Nat → Int32}
theorem mt_r87 (hk : 4 ≤ k) (hm : m < 6) (h2 : a2 m = nI l.length) (hl : l.length ≤ 4) (h3 : mt_ops a3 (m * 4) l) (hf : mt_b f)
    (H : ∀ b' o' f', mt_one k z l b o f = (b', o', f') → mt_b f' → J (nI (m + 1)) c (-1) k b' o' f' a1 a2 a3) : wX_runs_87 post J k bl (nI m) z c (-1) k b o f a1 a2 a3 := by
  unfold wX_runs_87
  refine br_f (mt_ne m hm) (mt_vis hm h2 hl h3 hf (fun b1 o1 f1 e1 g1 => ?_))
  have E : mt_one k z l b o f = mt_visit k (if z = 0 then 1 else 0) l b1 o1 f1 := by
    unfold mt_one
    rw [if_pos hk, e1]
  refine br_c (fun ez => ?_) (fun ez => ?_)
  · rw [if_pos ez] at E
    unfold wX_runs_117
    exact mt_vis hm h2 hl h3 g1 (fun b2 o2 f2 e2 g2 => nm_r (nI_1 m) (H b2 o2 f2 (E.trans e2) g2))
  · rw [if_neg ez] at E
    unfold wX_runs_117
    exact mt_vis hm h2 hl h3 g1 (fun b2 o2 f2 e2 g2 => nm_r (nI_1 m) (H b2 o2 f2 (E.trans e2) g2))
theorem mt_r61 (hm : m < 6) (h2 : a2 m = nI l.length) (hl : l.length ≤ 4) (h3 : mt_ops a3 (m * 4) l) (hf : mt_b f)
    (H : ∀ b' o' f', mt_one k z l b o f = (b', o', f') → mt_b f' → J (nI (m + 1)) c (-1) k b' o' f' a1 a2 a3) : wX_runs_61 post J k bl (nI m) z c (-1) k b o f a1 a2 a3 := by
  unfold wX_runs_61
  refine br_f (mt_ne m hm) (br_c (fun hk => mt_r87 hk hm h2 hl h3 hf H) (fun hk => mt_vis hm h2 hl h3 hf (fun b1 o1 f1 e1 g1 => nm_r (nI_1 m) (H b1 o1 f1 ?_ g1))))
  unfold mt_one
  rw [if_neg hk, e1]
theorem mt_r53 {d : Int32} (hm : m < 6) (h2 : a2 m = nI l.length) (hl : l.length ≤ 4) (h3 : mt_ops a3 (m * 4) l) (hf : mt_b f) {y : Int32} (hy : (if d = 0 then 1 else 0) = y)
    (H : ∀ b' o' f', mt_one k (mt_x6 bl d) l b o f = (b', o', f') → mt_b f' → J (nI (m + 1)) c (-1) k b' o' f' a1 a2 a3) : wX_runs_53 post J k bl (nI m) y bl c (-1) k b o f a1 a2 a3 := by
  unfold mt_x6 at H
  rw [hy] at H
  unfold wX_runs_53
  refine br_c (fun e => ?_) (fun e => ?_)
  · rw [if_pos e] at H
    exact mt_r61 hm h2 hl h3 hf H
  · rw [if_neg e] at H
    exact mt_r61 hm h2 hl h3 hf H
end
theorem mt_r28 {post : Int32 → St2 → Prop} {k bl c : Int32} {a1 a2 a3 : Nat → Int32} : ∀ (T : List (Int32 × List Int32)) (m : Nat) (b o f : Int32) (n : Nat), m + T.length ≤ 6 → c = nI (m + T.length) → mt_T a1 a2 a3 m T → mt_b f → T.length < n →
    (∀ b' o' f', mt_run k bl T b o f = (b', o', f') → post f' (c, -1, k, b', o', f', a1, a2, a3)) → wX_runs_28 post k bl n (nI m) c (-1) k b o f a1 a2 a3 := by
  intro T
  induction T with
  | nil =>
    intro m b o f n hi hc h3 hf hn H
    have hn' : 0 < n := hn
    have hi' : m ≤ 6 := hi
    have hc' : c = nI m := hc
    obtain ⟨n, rfl⟩ : ∃ n', n = n' + 1 := ⟨n - 1, by omega⟩
    refine br_t ?_ ⟨(mt_bool hf).1, H b o f rfl⟩
    rw [hc']
    exact nI_le (Nat.le_refl m) (by omega)
  | cons p T ih =>
    obtain ⟨d, l⟩ := p
    intro m b o f n hi hc h3 hf hn H
    have hn' : T.length + 1 < n := hn
    have hi' : m + (T.length + 1) ≤ 6 := hi
    have hc' : c = nI (m + (T.length + 1)) := hc
    have hc'' : c = nI (m + 1 + T.length) := by rw [hc', show m + (T.length + 1) = m + 1 + T.length by omega]
    obtain ⟨⟨g1, g2, g3, g4⟩, g5⟩ := h3
    obtain ⟨n, rfl⟩ : ∃ n', n = n' + 1 := ⟨n - 1, by omega⟩
    have hm : m < 6 := by omega
    have K : ∀ b' o' f', mt_one k (mt_x6 bl d) l b o f = (b', o', f') → mt_b f' → wX_runs_28 post k bl n (nI (m + 1)) c (-1) k b' o' f' a1 a2 a3 := by
      intro b1 o1 f1 e1 g
      refine ih (m + 1) b1 o1 f1 n (by omega) hc'' g5 g (by omega) (fun b' o' f' z => H b' o' f' ?_)
      rw [mt_run, mt_nm_eq, e1]
      exact z
    refine br_f ?_ ⟨vp_in_nI hm (by omega), ?_⟩
    · rw [hc']
      exact nI_ge (by omega) (by omega)
    · rw [nI_clamp (show m < 2 ^ 31 by omega), g1]
      exact br_c (fun e => mt_r53 hm g2 g3 g4 hf (if_pos e) K) (fun e => mt_r53 hm g2 g3 g4 hf (if_neg e) K)
theorem mt_runs_ok {post : Int32 → St2 → Prop} {T : List (Int32 × List Int32)} {k bl fi ot c k0 b0 o0 f0 : Int32} {a1 a2 a3 : Nat → Int32} (h : mt_ok T c a1 a2 a3) (H : ∀ k' b o f, post (mt_runs k bl T fi ot) (c, -1, k', b, o, f, a1, a2, a3)) :
    wpX_runs post (c, -1, k0, b0, o0, f0, a1, a2, a3) k bl fi ot := by
  obtain ⟨h1, h2, h3⟩ := h
  unfold wpX_runs
  refine mt_hold_ok ?_
  refine ⟨7, mt_r28 T 0 _ _ _ 7 (by omega) (by rw [Nat.zero_add]; exact h2) h3 (Or.inl rfl) (by omega) (fun b' o' f' e => ?_)⟩
  have t := H k b' o' f'
  unfold mt_runs at t
  rw [mt_nm_eq, e] at t
  exact t
end
section
section
variable {post : Int32 → St2 → Prop} {T : List (Int32 × List Int32)} {k bl c k0 b0 o0 f0 : Int32} {a1 a2 a3 : Nat → Int32}
theorem mt_q4 {n : Nat} {x1 x2 : Int32} (h : mt_ok T c a1 a2 a3) (hx : ¬ 2 ≤ x2) (H : ∀ k b o f, wX_quiet_4 post n (x1 + mt_cq (-1) 1 T x2 0) (x2 + 1) c (-1) k b o f a1 a2 a3) :
    wX_quiet_4 post (n + 1) x1 x2 c (-1) k0 b0 o0 f0 a1 a2 a3 := by
  unfold mt_cq at H
  refine br_f hx (mt_runs_ok h (fun k b o f => ?_))
  refine br_c (fun e => nm_e (nm_e ?_)) (fun e => nm_e (nm_e ?_))
  · rw [if_pos e] at H
    exact H k b o f
  · rw [if_neg e] at H
    exact H k b o f
theorem mt_quiet_ok (h : mt_ok T c a1 a2 a3) (H : ∀ k b o f, post (mt_q T) (c, -1, k, b, o, f, a1, a2, a3)) : wpX_quiet post (c, -1, k0, b0, o0, f0, a1, a2, a3) :=
  ⟨3, mt_q4 h (by decide) (fun _ _ _ _ => mt_q4 h (by decide) (fun k b o f => br_t (by decide) (H k b o f)))⟩
theorem mt_sound_ok (h : mt_ok T c a1 a2 a3) (hq : mt_q T = 2) (H : ∀ k b o f, post 1 (c, -1, k, b, o, f, a1, a2, a3)) : wpX_sound post (c, -1, k0, b0, o0, f0, a1, a2, a3) := by
  unfold wpX_sound
  exact mt_quiet_ok h (fun k b o f => br_t hq (H k b o f))
theorem mt_s22 {J : Int32 → Int32 → Int32 → Int32 → Int32 → Int32 → Int32 → Int32 → (Nat → Int32) → (Nat → Int32) → (Nat → Int32) → Prop} {x3 x4 : Int32} (h : mt_ok T c a1 a2 a3)
    (H : ∀ k' b o f, J (x3 + mt_cq k bl T (x4 &&& 1) (x4 >>> ((1 : Int32) &&& 31))) (x4 + 1) c (-1) k' b o f a1 a2 a3) : wX_silent_22 post J k bl x3 x4 c (-1) k0 b0 o0 f0 a1 a2 a3 := by
  unfold mt_cq at H
  unfold wX_silent_22 wX_silent_27
  refine br_f (by decide) (mt_runs_ok h (fun k' b o f => ?_))
  refine br_c (fun e => nm_e (nm_e ?_)) (fun e => nm_e (nm_e ?_))
  · rw [if_pos e] at H
    exact H k' b o f
  · rw [if_neg e] at H
    exact H k' b o f
theorem mt_s5 {n : Nat} {x3 x4 : Int32} (h : mt_ok T c a1 a2 a3) (hx : ¬ 4 ≤ x4) (H : ∀ k' b o f, wX_silent_5 post k bl n (x3 + mt_cs k bl T x4) (x4 + 1) c (-1) k' b o f a1 a2 a3) :
    wX_silent_5 post k bl (n + 1) x3 x4 c (-1) k0 b0 o0 f0 a1 a2 a3 := by
  unfold mt_cs at H
  refine br_f hx (br_c (fun e => ?_) (fun e => br_c (fun e2 => ?_) (fun e2 => ?_)))
  · rw [if_pos e] at H
    exact mt_s22 h H
  · rw [if_neg e, if_pos e2] at H
    unfold wX_silent_27
    exact br_t rfl (nm_e (nm_e (H k0 b0 o0 f0)))
  · rw [if_neg e, if_neg e2] at H
    exact mt_s22 h H
theorem mt_s75_4 {x : Int32} (h : mt_ok T c a1 a2 a3) (H : ∀ k b o f, post (x * mt_q T * mt_q T * mt_q T * mt_q T) (c, -1, k, b, o, f, a1, a2, a3)) : wX_silent_75 post x 4 c (-1) k0 b0 o0 f0 a1 a2 a3 := by
  unfold wX_silent_75
  refine mt_quiet_ok h (fun k b o f => ?_)
  exact ⟨5, br_f (by decide) (nm_e (nm_e (br_f (by decide) (nm_e (nm_e (br_f (by decide) (nm_e (nm_e (br_f (by decide) (nm_e (nm_e (br_t (by decide) (H k b o f)))))))))))))⟩
theorem mt_s75_3 {x : Int32} (h : mt_ok T c a1 a2 a3) (H : ∀ k b o f, post (x * mt_q T * mt_q T * mt_q T) (c, -1, k, b, o, f, a1, a2, a3)) : wX_silent_75 post x 3 c (-1) k0 b0 o0 f0 a1 a2 a3 := by
  unfold wX_silent_75
  refine mt_quiet_ok h (fun k b o f => ?_)
  exact ⟨4, br_f (by decide) (nm_e (nm_e (br_f (by decide) (nm_e (nm_e (br_f (by decide) (nm_e (nm_e (br_t (by decide) (H k b o f))))))))))⟩
theorem mt_silent_ok (h : mt_ok T c a1 a2 a3) (H : ∀ k' b o f, post (mt_sil k bl T) (c, -1, k', b, o, f, a1, a2, a3)) : wpX_silent post (c, -1, k0, b0, o0, f0, a1, a2, a3) k bl := by
  unfold mt_sil mt_n at H
  refine ⟨5, mt_s5 h (by decide) (fun _ _ _ _ => mt_s5 h (by decide) (fun _ _ _ _ => mt_s5 h (by decide) (fun _ _ _ _ => mt_s5 h (by decide) (fun k' b o f => ?_))))⟩
  refine br_t (by decide) (br_c (fun e => ?_) (fun e => ?_))
  · rw [if_pos e] at H
    exact mt_s75_4 h H
  · rw [if_neg e] at H
    exact mt_s75_3 h H
theorem mt_isFound_ok (h : mt_ok T c a1 a2 a3) (H : ∀ k' b o f, post (mt_if k bl T) (c, -1, k', b, o, f, a1, a2, a3)) : wpX_isFound post (c, -1, k0, b0, o0, f0, a1, a2, a3) k bl := by
  unfold mt_if at H
  unfold wpX_isFound
  refine mt_silent_ok h (fun k' b o f => ?_)
  refine br_c (fun e => ?_) (fun e => ?_)
  · rw [if_pos e] at H
    exact H k' b o f
  · rw [if_neg e] at H
    exact H k' b o f
theorem mt_half_ok {P : Int32 → Prop} (H : P (mt_hf k)) : wpX_half P () k := by
  unfold mt_hf at H
  refine br_c (fun e => ?_) (fun e => ?_)
  · rw [if_pos e] at H
    exact H
  · rw [if_neg e] at H
    exact H
theorem mt_fd29 {z : Int32} (h : mt_ok T c a1 a2 a3) (H : ∀ k' b o f, post (if k < 4 then z else if mt_if k 0 T = 0 then z else z + mt_hf k) (c, -1, k', b, o, f, a1, a2, a3)) : wX_found_29 post k z c (-1) k0 b0 o0 f0 a1 a2 a3 := by
  unfold wX_found_29
  refine br_c (fun e => ?_) (fun e => ?_)
  · rw [if_pos e] at H
    exact H _ _ _ _
  · rw [if_neg e] at H
    refine mt_isFound_ok h (fun k' b o f => ?_)
    refine br_c (fun e2 => ?_) (fun e2 => ?_)
    · rw [if_pos e2] at H
      exact H k' b o f
    · rw [if_neg e2] at H
      exact mt_half_ok (nm_e (H k' b o f))
theorem mt_found_ok (h : mt_ok T c a1 a2 a3) (hk0 : ¬ k < 0) (hk : k < 14) (H : ∀ k' b o f, post (mt_fd k T) (c, -1, k', b, o, f, a1, a2, a3)) : wpX_found post (c, -1, k0, b0, o0, f0, a1, a2, a3) k := by
  unfold mt_fd mt_fd1 at H
  unfold wpX_found
  refine br_f hk0 (br_t hk (mt_isFound_ok h (fun k' b o f => ?_)))
  refine br_c (fun e => ?_) (fun e => ?_)
  · rw [if_pos e] at H
    exact mt_fd29 h H
  · rw [if_neg e] at H
    refine mt_half_ok ?_
    exact mt_fd29 h H
theorem mt_cov21 {J : Int32 → Int32 → Int32 → Int32 → Int32 → Int32 → Int32 → Int32 → (Nat → Int32) → (Nat → Int32) → (Nat → Int32) → Prop} {x1 z : Int32} {i : Nat} (h : mt_ok T c a1 a2 a3) (hi : i < 14) (hz : mt_all (nI i) = z)
    (H : ∀ k' b o f, J (x1 ||| mt_cvv T (nI i)) (nI (i + 1)) c (-1) k' b o f a1 a2 a3) : wX_covered_21 post J x1 (nI i) z c (-1) k0 b0 o0 f0 a1 a2 a3 := by
  unfold mt_cvv at H
  rw [hz] at H
  unfold wX_covered_21
  refine mt_found_ok h (nI_pos (by omega)) (nI_lt (b := 14) hi (by decide)) (fun k' b o f => ?_)
  refine br_c (fun e => nm_e (nm_r (nI_1 i) ?_)) (fun e => nm_e (nm_r (nI_1 i) ?_))
  · rw [if_pos e] at H
    exact H k' b o f
  · rw [if_neg e] at H
    exact H k' b o f
theorem mt_cov4 (h : mt_ok T c a1 a2 a3) (H : ∀ k' b o f, post (mt_cvs T 14) (c, -1, k', b, o, f, a1, a2, a3)) : ∀ (j i : Nat), i + j = 14 → ∀ k' b o f, wX_covered_4 post (j + 1) (mt_cvs T i) (nI i) c (-1) k' b o f a1 a2 a3 := by
  intro j
  induction j with
  | zero =>
    intro i hi k' b o f
    have hi' : i = 14 := by omega
    subst hi'
    exact br_t (by decide) (H k' b o f)
  | succ j ih =>
    intro i hi k' b o f
    refine br_f (nI_ge (b := 14) (by omega) (by decide)) (br_c (fun e => ?_) (fun e => ?_))
    · exact mt_cov21 h (by omega) (if_pos e) (fun k' b o f => ih (i + 1) (by omega) k' b o f)
    · exact mt_cov21 h (by omega) (if_neg e) (fun k' b o f => ih (i + 1) (by omega) k' b o f)
theorem mt_covered_ok (h : mt_ok T c a1 a2 a3) (H : ∀ k' b o f, post (mt_cvs T 14) (c, -1, k', b, o, f, a1, a2, a3)) : wpX_covered post (c, -1, k0, b0, o0, f0, a1, a2, a3) :=
  ⟨15, mt_cov4 h H 14 0 rfl k0 b0 o0 f0⟩
theorem mt_fs29 {J : Int32 → Int32 → Int32 → Int32 → Int32 → Int32 → Int32 → Int32 → (Nat → Int32) → (Nat → Int32) → (Nat → Int32) → Prop} {z0 z1 : Int32} {i : Nat} (h : mt_ok T c a1 a2 a3)
    (H : ∀ x k' b o f, J x (nI (i + 1)) c (-1) k' b o f a1 a2 a3) : wX_foundSet_29 post J (nI i) z0 z1 c (-1) k0 b0 o0 f0 a1 a2 a3 := by
  unfold wX_foundSet_29
  refine nm_e (mt_isFound_ok h (fun k' b o f => ?_))
  exact br_c (fun e => nm_e (nm_r (nI_1 i) (H _ k' b o f))) (fun e => nm_e (nm_r (nI_1 i) (H _ k' b o f)))
theorem mt_fs4 (h : mt_ok T c a1 a2 a3) (H : ∀ x k' b o f, post x (c, -1, k', b, o, f, a1, a2, a3)) : ∀ (j i : Nat), i + j = 14 → ∀ x k' b o f, wX_foundSet_4 post (j + 1) x (nI i) c (-1) k' b o f a1 a2 a3 := by
  intro j
  induction j with
  | zero =>
    intro i hi x k' b o f
    have hi' : i = 14 := by omega
    subst hi'
    exact br_t (by decide) (H x k' b o f)
  | succ j ih =>
    intro i hi x k' b o f
    refine br_f (nI_ge (b := 14) (by omega) (by decide)) (mt_isFound_ok h (fun k' b o f => ?_))
    exact br_c (fun e => mt_fs29 h (fun x k' b o f => ih (i + 1) (by omega) x k' b o f)) (fun e => mt_fs29 h (fun x k' b o f => ih (i + 1) (by omega) x k' b o f))
theorem mt_foundSet_ok (h : mt_ok T c a1 a2 a3) (H : ∀ x k' b o f, post x (c, -1, k', b, o, f, a1, a2, a3)) : wpX_foundSet post (c, -1, k0, b0, o0, f0, a1, a2, a3) :=
  ⟨15, mt_fs4 h H 14 0 rfl 0 k0 b0 o0 f0⟩
/-- spare, of the empty test -/
theorem mt_spare_ok (h : mt_ok [] 0 a1 a2 a3) (H : ∀ k' b o f, post 0 (0, -1, k', b, o, f, a1, a2, a3)) : wpX_spare post (0, -1, k0, b0, o0, f0, a1, a2, a3) := by
  unfold wpX_spare
  refine mt_foundSet_ok h (fun x k' b o f => ?_)
  exact ⟨1, br_t (by decide) (H k' b o f)⟩
theorem mt_steps4 {P : Int32 → Prop} {w k b o f : Int32} : ∀ (T : List (Int32 × List Int32)) (m : Nat) (x : Int32) (n : Nat), m + T.length ≤ 6 → c = nI (m + T.length) → mt_T a1 a2 a3 m T → T.length < n → P (mt_sp T x) → wX_steps_4 P c w k b o f a1 a2 a3 n x (nI m) := by
  intro T
  induction T with
  | nil =>
    intro m x n hi hc h3 hn H
    have hn' : 0 < n := hn
    have hi' : m ≤ 6 := hi
    have hc' : c = nI m := hc
    obtain ⟨n, rfl⟩ : ∃ n', n = n' + 1 := ⟨n - 1, by omega⟩
    refine br_t ?_ H
    rw [hc']
    exact nI_le (Nat.le_refl m) (by omega)
  | cons p T ih =>
    obtain ⟨d, l⟩ := p
    intro m x n hi hc h3 hn H
    have hn' : T.length + 1 < n := hn
    have hi' : m + (T.length + 1) ≤ 6 := hi
    have hc' : c = nI (m + (T.length + 1)) := hc
    have hc'' : c = nI (m + 1 + T.length) := by rw [hc', show m + (T.length + 1) = m + 1 + T.length by omega]
    obtain ⟨⟨g1, g2, g3, g4⟩, g5⟩ := h3
    obtain ⟨n, rfl⟩ : ∃ n', n = n' + 1 := ⟨n - 1, by omega⟩
    refine br_f ?_ ⟨vp_in_nI (by omega) (by omega), ?_⟩
    · rw [hc']
      exact nI_ge (by omega) (by omega)
    · rw [nI_clamp (show m < 2 ^ 31 by omega), g2]
      exact nm_e (nm_r (nI_1 m) (ih (m + 1) _ n (by omega) hc'' g5 (by omega) H))
theorem mt_steps_ok {P : Int32 → Prop} {w k b o f : Int32} (h : mt_ok T c a1 a2 a3) (H : P (mt_sp T 0)) : wpX_steps P (c, w, k, b, o, f, a1, a2, a3) := by
  obtain ⟨h1, h2, h3⟩ := h
  exact ⟨7, mt_steps4 T 0 0 7 (by omega) (by rw [Nat.zero_add]; exact h2) h3 (by omega) H⟩
theorem mt_isFault_ok {P : Int32 → Prop} {k v a : Nat} (hk : k < 14) (hv : v < 5) (ha : a < 5) (hn : a ≠ v) (H : P 1) : wpX_isFault P () (nI k) (nI v) (nI a) := by
  unfold wpX_isFault
  refine br_f (nI_pos (by omega)) (br_f (nI_ge (b := 14) hk (by decide)) (br_f (nI_pos (by omega)) (br_f (nI_ge (b := 5) hv (by decide)) ?_)))
  unfold wX_isFault_24
  refine br_f (by decide) (br_c (fun _ => H) (fun _ => br_f (nI_pos (by omega)) (br_f (nI_ge (b := 5) ha (by decide)) (br_f ?_ H))))
  intro e
  exact hn ((nI_eq (by omega) (by omega)).mp e)
theorem mt_finds_ok {k v a : Nat} (h : mt_ok T c a1 a2 a3) (hk : k < 14) (hv : v < 5) (ha : a < 5) (hn : a ≠ v) (s0 : mt_sil (nI k) 0 T = 0) (s1 : mt_sil (nI k) 1 T = 0) (H : ∀ k' b o f, post 1 (c, -1, k', b, o, f, a1, a2, a3)) :
    wpX_finds post (c, -1, k0, b0, o0, f0, a1, a2, a3) (nI k) (nI v) (nI a) := by
  have i0 : ¬ mt_if (nI k) 0 T = 0 := by unfold mt_if; rw [if_pos s0]; decide
  have i1 : ¬ mt_if (nI k) 1 T = 0 := by unfold mt_if; rw [if_pos s1]; decide
  unfold wpX_finds
  refine mt_isFault_ok hk hv ha hn (br_f (by decide) (br_c (fun _ => ?_) (fun _ => ?_)))
  · unfold wX_finds_21
    exact mt_isFound_ok h (fun k' b o f => br_f i0 (H k' b o f))
  · unfold wX_finds_21
    exact mt_isFound_ok h (fun k' b o f => br_f i1 (H k' b o f))
theorem mt_foundFrom_ok {k v a : Nat} (h : mt_ok T c a1 a2 a3) (hk : k < 14) (hv : v < 5) (ha : a < 5) (hn : a ≠ v) (s0 : mt_sil (nI k) 0 T = 0) (s1 : mt_sil (nI k) 1 T = 0) (H : ∀ k' b o f, post 32 (c, -1, k', b, o, f, a1, a2, a3)) :
    wpX_foundFrom post (c, -1, k0, b0, o0, f0, a1, a2, a3) (nI k) (nI v) (nI a) := by
  unfold wpX_foundFrom
  refine mt_isFault_ok hk hv ha hn (br_f (by decide) (br_c (fun _ => ?_) (fun _ => ?_)))
  · unfold wX_foundFrom_23
    refine mt_silent_ok h (fun k' b o f => ?_)
    rw [s0]
    exact H k' b o f
  · unfold wX_foundFrom_23
    refine mt_silent_ok h (fun k' b o f => ?_)
    rw [s1]
    exact H k' b o f
end
end
section
theorem mt_mem {b : Int32} (h : mt_b b) : b ∈ [(0 : Int32), 1] := by
  rcases h with h | h
  · rw [h]; decide
  · rw [h]; decide
theorem mt_flip {b : Int32} (h : mt_b b) : mt_b (1 - b) := by
  rcases h with h | h
  · rw [h]; exact Or.inr (by decide)
  · rw [h]; exact Or.inl (by decide)
theorem mt_nar {b : Int32} (h : mt_b b) : b.toInt8.toInt32 = b := by
  rcases h with h | h
  · rw [h]; decide
  · rw [h]; decide
/-- an operation -/
def mt_o (p : Int32) : Prop := ¬ p < 0 ∧ ¬ 3 < p ∧ p.toInt8.toInt32 = p
theorem mt_o_b {b : Int32} (h : mt_b b) : mt_o b := by
  rcases h with h | h
  · rw [h]; exact ⟨by decide, by decide, by decide⟩
  · rw [h]; exact ⟨by decide, by decide, by decide⟩
theorem mt_o_r {b : Int32} (h : mt_b b) : mt_o (2 + b) := by
  rcases h with h | h
  · rw [h]; exact ⟨by decide, by decide, by decide⟩
  · rw [h]; exact ⟨by decide, by decide, by decide⟩
theorem mt_inc : ∀ s, s < 4 → (nI s + 1).toInt8.toInt32 = nI (s + 1) := by decide
theorem mt_dec : ∀ s, s < 4 → (nI (s + 1) - 1).toInt8.toInt32 = nI s := by decide
section
variable {post : Int32 → St2 → Prop} {c w k b o f p : Int32} {a1 a2 a3 : Nat → Int32}
theorem mt_march_ok (n : Nat) (hn : n < 6) (hp : mt_b p) (H : post (nI n) (nI (n + 1), w, k, b, o, f, upd a1 n p, upd a2 n 0, a3)) : wpX_march post (nI n, w, k, b, o, f, a1, a2, a3) p := by
  have M : wX_march_11 post p (nI n) w k b o f a1 a2 a3 := by
    unfold wX_march_11
    rw [nI_clamp (show n < 2 ^ 31 by omega), mt_nar hp]
    refine br_t (nI_lt (b := 6) hn (by decide)) ⟨vp_in_nI hn (by decide), nm_e ⟨vp_in_nI hn (by decide), nm_e (nm_r (nI_1 n) ?_)⟩⟩
    rw [nI_pred]
    exact H
  unfold wpX_march
  exact br_c (fun _ => M) (fun e => br_t (Or.resolve_left hp e) M)
theorem mt_march_full (hp : mt_b p) (H : post (-2) (nI 6, w, k, b, o, f, a1, a2, a3)) : wpX_march post (nI 6, w, k, b, o, f, a1, a2, a3) p := by
  have M : wX_march_11 post p (nI 6) w k b o f a1 a2 a3 := by
    unfold wX_march_11
    exact br_f (by decide) H
  unfold wpX_march
  exact br_c (fun _ => M) (fun e => br_t (Or.resolve_left hp e) M)
theorem mt_op_ok (m s : Nat) (hm : m < 6) (hs : s < 4) (h2 : a2 m = nI s) (hp : mt_o p) (H : post (nI (s + 1)) (nI (m + 1), w, k, b, o, f, a1, upd a2 m (nI (s + 1)), upd a3 (m * 4 + s) p)) : wpX_op post (nI (m + 1), w, k, b, o, f, a1, a2, a3) p := by
  have e : nI m * 4 + nI s = nI (m * 4 + s) := by rw [show (4 : Int32) = nI 4 from rfl, pk_mul, nI_add]
  unfold wpX_op
  refine br_f hp.1 (br_f hp.2.1 (br_f (nI_ne0 (by omega) (by omega)) (nm_r (nI_pred m) ?_)))
  rw [nI_clamp (show m < 2 ^ 31 by omega), h2, e, nI_clamp (show m * 4 + s < 2 ^ 31 by omega), hp.2.2, mt_inc s hs]
  have V : vp_in (nI m) 6 := vp_in_nI hm (by decide)
  refine ⟨V, br_t (nI_lt (b := 4) hs (by decide)) ⟨V, vp_in_nI (by omega) (by decide), nm_e ⟨V, V, nm_e ⟨V, ?_⟩⟩⟩⟩
  rw [pk_us]
  exact H
theorem mt_op_full (m : Nat) (hm : m < 6) (h2 : a2 m = nI 4) (hp : mt_o p) (H : post (-2) (nI (m + 1), w, k, b, o, f, a1, a2, a3)) : wpX_op post (nI (m + 1), w, k, b, o, f, a1, a2, a3) p := by
  unfold wpX_op
  refine br_f hp.1 (br_f hp.2.1 (br_f (nI_ne0 (by omega) (by omega)) (nm_r (nI_pred m) ?_)))
  rw [nI_clamp (show m < 2 ^ 31 by omega), h2]
  exact ⟨vp_in_nI hm (by decide), br_f (by decide) H⟩
theorem mt_drop_op (m s : Nat) (hm : m < 6) (hs : s < 4) (h2 : a2 m = nI (s + 1)) (H : post (nI (m + 1)) (nI (m + 1), w, k, b, o, f, a1, upd a2 m (nI s), a3)) : wpX_drop post (nI (m + 1), w, k, b, o, f, a1, a2, a3) := by
  unfold wpX_drop
  refine br_f (nI_ne0 (by omega) (by omega)) ?_
  rw [nI_pred, nI_clamp (show m < 2 ^ 31 by omega), h2, mt_dec s hs]
  have V : vp_in (nI m) 6 := vp_in_nI hm (by decide)
  exact ⟨V, br_f (nI_nle (by omega) (by omega)) ⟨V, V, nm_e H⟩⟩
theorem mt_drop_march (m : Nat) (hm : m < 6) (h2 : a2 m = nI 0) (H : post (nI m) (nI m, w, k, b, o, f, a1, a2, a3)) : wpX_drop post (nI (m + 1), w, k, b, o, f, a1, a2, a3) := by
  unfold wpX_drop
  refine br_f (nI_ne0 (by omega) (by omega)) ?_
  rw [nI_pred, nI_clamp (show m < 2 ^ 31 by omega), h2]
  exact ⟨vp_in_nI hm (by decide), br_t (by decide) (nm_e H)⟩
theorem mt_turn_ok (n i : Nat) (d : Int32) (hn : n < 6) (hi : i < n) (hd : a1 i = d) (hb : mt_b d) (H : post 1 (nI n, w, k, b, o, f, upd a1 i (1 - d), a2, a3)) : wpX_turn post (nI n, w, k, b, o, f, a1, a2, a3) (nI i) := by
  unfold wpX_turn
  dsimp only
  rw [nI_clamp (show i < 2 ^ 31 by omega), hd, mt_nar (mt_flip hb)]
  have V : vp_in (nI i) 6 := vp_in_nI (by omega) (by decide)
  exact br_f (nI_pos (by omega)) (br_t (nI_lt hi (by omega)) ⟨V, V, nm_e H⟩)
theorem mt_turn_no (n : Nat) (hn : n < 6) (H : post 0 (nI n, w, k, b, o, f, a1, a2, a3)) : wpX_turn post (nI n, w, k, b, o, f, a1, a2, a3) (nI n) := by
  unfold wpX_turn
  exact br_f (nI_pos (by omega)) (br_f (nI_nlt (Nat.le_refl n) (by omega)) H)
theorem mt_op4 (H : post (-1) (c, w, k, b, o, f, a1, a2, a3)) : wpX_op post (c, w, k, b, o, f, a1, a2, a3) 4 := by
  unfold wpX_op
  exact br_f (by decide) (br_t (by decide) H)
theorem mt_march2 (H : post (-1) (c, w, k, b, o, f, a1, a2, a3)) : wpX_march post (c, w, k, b, o, f, a1, a2, a3) 2 := by
  unfold wpX_march
  exact br_f (by decide) (br_f (by decide) H)
theorem mt_finds411 (H : post 0 (c, w, k, b, o, f, a1, a2, a3)) : wpX_finds post (c, w, k, b, o, f, a1, a2, a3) 4 1 1 := by
  unfold wpX_finds wpX_isFault wX_isFault_24
  exact br_f (by decide) (br_f (by decide) (br_f (by decide) (br_f (by decide) (br_f (by decide) (br_f (by decide) (br_f (by decide) (br_f (by decide) (br_t rfl (br_t rfl H)))))))))
theorem mt_found14 (H : post (-1) (c, w, k, b, o, f, a1, a2, a3)) : wpX_found post (c, w, k, b, o, f, a1, a2, a3) 14 := by
  unfold wpX_found
  exact br_f (by decide) (br_f (by decide) H)
theorem mt_foundFrom050 (H : post (-1) (c, w, k, b, o, f, a1, a2, a3)) : wpX_foundFrom post (c, w, k, b, o, f, a1, a2, a3) 0 5 0 := by
  unfold wpX_foundFrom wpX_isFault wX_isFault_23 wX_isFault_24
  exact br_f (by decide) (br_f (by decide) (br_f (by decide) (br_t (by decide) (br_t rfl (br_t rfl H)))))
end
end
section
section
variable {post : Int32 → St0 → Prop} {mc ms kc ks : Nat} {x2 x3 x5 x6 w k b o f : Int32} {a1 a2 a3 : Nat → Int32}
theorem mt_L535 (hb : mt_b x5) (h2 : a2 4 = nI 2) (H : post 1 ()) : wL_lawOf_535 post mc ms x5 1 kc ks (nI 5) w k b o f a1 a2 a3 := by
  unfold wL_lawOf_535
  refine mt_op_ok 4 2 (by decide) (by decide) h2 (mt_o_r hb) ?_
  refine mt_op_ok 4 3 (by decide) (by decide) pk_us (mt_o_r hb) ?_
  refine mt_op_full 4 (by decide) pk_us (mt_o_r hb) ?_
  refine br_f (by decide) (br_t rfl (br_t rfl (br_t rfl ?_)))
  refine mt_op4 (br_t rfl ?_)
  refine mt_march2 (br_t rfl ?_)
  refine mt_finds411 (br_t rfl ?_)
  refine mt_found14 (br_t rfl ?_)
  exact mt_foundFrom050 (br_t rfl H)
theorem mt_L469 (hb : mt_b x5) (hw : mt_b x6) (h : mt_ok (mt_five x5 x6) (nI 5) a1 a2 a3) (H : post 1 ()) : wL_lawOf_469 post mc ms x5 1 kc ks (nI 5) (-1) k b o f a1 a2 a3 := by
  obtain ⟨_, _, g0, g1, g2, ⟨g3, g3'⟩, ⟨g4, g4'⟩, _⟩ := h
  have F := mt_f3 x5 (mt_mem hb) x6 (mt_mem hw)
  have h' : mt_ok (mt_turned x5 x6) (nI 5) (upd (upd a1 3 (1 - (1 - x6))) 4 (1 - (1 - x6))) a2 a3 := ⟨(by decide : 5 ≤ 6), rfl, g0, g1, g2, ⟨rfl, g3'⟩, ⟨rfl, g4'⟩, trivial⟩
  unfold wL_lawOf_469
  refine mt_turn_ok 5 3 (1 - x6) (by decide) (by decide) g3 (mt_flip hw) ?_
  refine mt_turn_ok 5 4 (1 - x6) (by decide) (by decide) g4 (mt_flip hw) ?_
  refine br_f (by decide) (br_f (by decide) (br_f (by decide) ?_))
  refine mt_sound_ok h' F.1 (fun k b o f => br_f (by decide) ?_)
  refine mt_turn_no 5 (by decide) (br_t rfl ?_)
  have hx := mt_o_b hb
  refine mt_found_ok h' hx.1 ?_ (fun k b o f => br_t F.2 ?_)
  · rcases hb with e | e
    · rw [e]; decide
    · rw [e]; decide
  · exact mt_L535 hb g4'.1 H
theorem mt_L379 (hb : mt_b x5) (hw : mt_b x6) (h : mt_ok (mt_full x5 x6) (nI 6) a1 a2 a3) (H : post 1 ()) : wL_lawOf_379 post mc ms x5 1 kc ks (nI 6) (-1) k b o f a1 a2 a3 := by
  obtain ⟨_, _, g0, g1, g2, g3, g4, ⟨g5, g5'⟩, _⟩ := h
  have F := mt_f2 x5 (mt_mem hb) x6 (mt_mem hw)
  have h' : mt_ok (mt_five x5 x6) (nI 5) a1 (upd a2 5 (nI 0)) a3 := ⟨(by decide : 5 ≤ 6), rfl, g0, g1, g2, g3, g4, trivial⟩
  unfold wL_lawOf_379
  refine mt_drop_op 5 0 (by decide) (by decide) g5'.1 ?_
  refine mt_drop_march 5 (by decide) pk_us ?_
  refine br_f (by decide) (br_t rfl (br_t rfl ?_))
  refine mt_sound_ok h' F.1 (fun k b o f => br_f (by decide) ?_)
  refine mt_steps_ok h' (br_t F.2.1 ?_)
  refine mt_found_ok h' (by decide) (by decide) (fun k b o f => br_t F.2.2.1 ?_)
  refine mt_found_ok h' (by decide) (by decide) (fun k b o f => br_t F.2.2.2.1 ?_)
  refine mt_found_ok h' (mt_o_r hb).1 ?_ (fun k b o f => br_t F.2.2.2.2 ?_)
  · rcases hb with e | e
    · rw [e]; decide
    · rw [e]; decide
  · exact mt_L469 hb hw h' H
theorem mt_L341 {κ v a : Nat} {z : Int32} (hb : mt_b x5) (hw : mt_b x6) (hk : κ < 14) (hv : v < 5) (ha : a < 5) (hn : a ≠ v) (h : mt_ok (mt_full x5 x6) (nI 6) a1 a2 a3) (hz : mt_fd (nI κ) (mt_full x5 x6) = z) (H : post 1 ()) :
    wL_lawOf_341 post mc ms x5 (nI κ) (nI v) (nI a) z (mt_fd (nI κ) (mt_full x5 x6)) kc ks (nI 6) (-1) k b o f a1 a2 a3 := by
  have F := mt_f1k x5 (mt_mem hb) x6 (mt_mem hw) κ hk
  unfold wL_lawOf_341
  refine br_t hz ?_
  refine mt_finds_ok h hk hv ha hn F.2.1 F.2.2 (fun k b o f => br_f (by decide) ?_)
  exact mt_foundFrom_ok h hk hv ha hn F.2.1 F.2.2 (fun k b o f => br_t rfl (mt_L379 hb hw h H))
theorem mt_L102 {n : Nat} (hb : mt_b x5) (hw : mt_b x6) (h : mt_ok (mt_full x5 x6) (nI 6) (upd a1 5 x6) (upd (upd a2 5 0) 5 (nI (0 + 1))) (upd a3 (5 * 4 + 0) (2 + x5))) (H : post 1 ()) :
    wL_lawOf_102 post mc ms x2 x3 x5 x6 kc ks (n + 1) 1 (nI 5) (nI 5) (-1) k b o f a1 a2 a3 := by
  obtain ⟨i, hi, ei⟩ := pk_andE x2 (m := 65535) 16 (by decide)
  obtain ⟨j, hj, ej⟩ := pk_andE x3 (m := 255) 8 (by decide)
  obtain ⟨t, ht, et⟩ := pk_andE (x3 >>> ((8 : Int32) &&& 31)) (m := 3) 2 (by decide)
  have hk : i % 14 < 14 := Nat.mod_lt i (by decide)
  have hv : j % 5 < 5 := Nat.mod_lt j (by decide)
  have ha : (j % 5 + 1 + t) % 5 < 5 := Nat.mod_lt _ (by decide)
  have hn : (j % 5 + 1 + t) % 5 ≠ j % 5 := by omega
  have ek : (x2 &&& 65535) - (x2 &&& 65535) / 14 * 14 = nI (i % 14) := by
    rw [ei]
    exact pk_rem (by omega) (by decide) (by decide)
  have ev : (x3 &&& 255) - (x3 &&& 255) / 5 * 5 = nI (j % 5) := by
    rw [ej]
    exact pk_rem (by omega) (by decide) (by decide)
  have ea : ((nI (j % 5) + 1) + ((x3 >>> ((8 : Int32) &&& 31)) &&& 3)) - ((nI (j % 5) + 1) + ((x3 >>> ((8 : Int32) &&& 31)) &&& 3)) / 5 * 5 = nI ((j % 5 + 1 + t) % 5) := by
    rw [et, nI_1, nI_add]
    exact pk_rem (by omega) (by decide) (by decide)
  have F := mt_f1q x5 (mt_mem hb) x6 (mt_mem hw)
  have Fk := (mt_f1k x5 (mt_mem hb) x6 (mt_mem hw) _ hk).1
  refine br_t (by decide) ?_
  refine mt_march_ok 5 (by decide) hw ?_
  refine mt_op_ok 5 0 (by decide) (by decide) pk_us (mt_o_r hb) ?_
  refine ⟨by decide, nm_r ek ⟨by decide, nm_r ev ⟨by decide, nm_r ea ?_⟩⟩⟩
  refine br_f (by decide) (br_t rfl (br_t rfl ?_))
  refine mt_march_full (Or.inl rfl) (br_t rfl ?_)
  refine mt_sound_ok h F.1 (fun k b o f => br_f (by decide) ?_)
  refine mt_covered_ok h (fun k b o f => br_t (mt_f1c x5 (mt_mem hb) x6 (mt_mem hw)) ?_)
  refine mt_steps_ok h (br_t F.2 ?_)
  refine mt_found_ok h (nI_pos (by omega)) (nI_lt (b := 14) hk (by decide)) (fun k b o f => br_c (fun e => ?_) (fun e => ?_))
  · exact mt_L341 hb hw hk hv ha hn h (Fk.trans (if_pos e)) H
  · exact mt_L341 hb hw hk hv ha hn h (Fk.trans (if_neg e)) H
theorem mt_142 {J : Int32 → Int32 → Int32 → Int32 → Int32 → Int32 → Int32 → Int32 → (Nat → Int32) → (Nat → Int32) → (Nat → Int32) → Prop} {d v : Int32} (m : Nat) (hm : m < 6) (hd : mt_b d) (hv : mt_b v)
    (H : J 1 (nI (m + 1)) (nI (m + 1)) w k b o f (upd a1 m d) (upd (upd (upd a2 m 0) m (nI (0 + 1))) m (nI (1 + 1))) (upd (upd a3 (m * 4 + 0) (2 + v)) (m * 4 + 1) (1 - v))) : wL_lawOf_142 post mc ms J x2 x3 x5 x6 1 (nI m) d v kc ks (nI m) w k b o f a1 a2 a3 := by
  unfold wL_lawOf_142
  refine mt_march_ok m hm hd ?_
  refine mt_op_ok m 0 hm (by decide) pk_us (mt_o_r hv) ?_
  refine mt_op_ok m 1 hm (by decide) pk_us (mt_o_b (mt_flip hv)) ?_
  exact br_f (by decide) (br_t rfl (br_t rfl (br_t rfl (nm_r (nI_1 m) H))))
theorem mt_L56 (hb : mt_b x5) (hw : mt_b x6) (H : post 1 ()) : wL_lawOf_56 post mc ms x2 x3 x5 x6 1 kc ks (nI 0) (-1) k b o f (fun _ => 0) (fun _ => 0) (fun _ => 0) := by
  unfold wL_lawOf_56
  refine mt_march_ok 0 (by decide) hw ?_
  refine mt_op_ok 0 0 (by decide) (by decide) pk_us (mt_o_b hb) ?_
  refine br_f (by decide) (br_t rfl (br_t rfl ⟨5, ?_⟩))
  refine br_f (by decide) (br_f (by decide) ⟨by decide, br_t (by decide) (mt_142 1 (by decide) hw hb ?_)⟩)
  refine br_f (by decide) (br_f (by decide) ⟨by decide, br_f (by decide) (mt_142 2 (by decide) hw (mt_flip hb) ?_)⟩)
  refine br_f (by decide) (br_t (by decide) ⟨by decide, br_t (by decide) (mt_142 3 (by decide) (mt_flip hw) hb ?_)⟩)
  refine br_f (by decide) (br_t (by decide) ⟨by decide, br_f (by decide) (mt_142 4 (by decide) (mt_flip hw) (mt_flip hb) ?_)⟩)
  refine mt_L102 hb hw ?_ H
  exact ⟨(by decide : 6 ≤ 6), rfl, ⟨rfl, rfl, (by decide : 1 ≤ 4), rfl, trivial⟩, ⟨rfl, rfl, (by decide : 2 ≤ 4), rfl, rfl, trivial⟩, ⟨rfl, rfl, (by decide : 2 ≤ 4), rfl, rfl, trivial⟩, ⟨rfl, rfl, (by decide : 2 ≤ 4), rfl, rfl, trivial⟩, ⟨rfl, rfl, (by decide : 2 ≤ 4), rfl, rfl, trivial⟩, ⟨rfl, rfl, (by decide : 1 ≤ 4), rfl, trivial⟩, trivial⟩
end
theorem mt_and1 (x : Int32) : mt_b (x &&& 1) := by
  obtain ⟨i, hi, ei⟩ := pk_andE x (m := 1) 1 (by decide)
  rw [ei]
  have h : i = 0 ∨ i = 1 := by omega
  rcases h with h | h
  · rw [h]; exact Or.inl rfl
  · rw [h]; exact Or.inr rfl
theorem mt_lawOf {post : Int32 → St0 → Prop} (p0 p1 p2 p3 : Int32) (H : post 1 ()) : wpL_lawOf post 18 272 () p0 p1 p2 p3 := by
  have h0 : mt_ok [] (nI 0) (fun _ => 0) (fun _ => 0) (fun _ => 0) := ⟨by decide, rfl, trivial⟩
  unfold wpL_lawOf
  refine ⟨by decide, by decide, 17, 263, by decide, by decide, ?_⟩
  refine ⟨by decide, by decide, by decide, by decide, by decide, by decide, nm_e (nm_e ?_)⟩
  refine mt_sound_ok h0 mt_f0.1 (fun k b o f => br_f (by decide) ?_)
  refine mt_covered_ok h0 (fun k b o f => br_t mt_f0.2.1 ?_)
  refine mt_steps_ok h0 (br_t mt_f0.2.2 ?_)
  refine mt_spare_ok h0 (fun k b o f => br_t rfl ?_)
  exact mt_L56 (mt_and1 p0) (mt_and1 p1) H
theorem mt_cell {P : Int32 → Prop} {L : Nat} {xs : Nat → Int32} (i : Nat) (hL : L ≤ 4) (hi : i < 4) (H : ∀ r, P r) : wpL_cellAt P L xs () (nI i) := by
  refine br_c (fun _ => H _) (fun e => ⟨?_, H _⟩)
  have hiL : i < L := by
    rcases Nat.lt_or_ge i L with z | z
    · exact z
    · exact absurd (nI_le z (by omega)) e
  exact vp_in_nI hiL (by omega)
theorem i_vc (xs : Nat → Int32) (L : Nat) (hL : L ≤ 4) : wpL_law (fun r => r = 1) L xs := by
  unfold wpL_law
  refine mt_cell 0 hL (by decide) (fun r0 => ?_)
  refine mt_cell 1 hL (by decide) (fun r1 => ?_)
  refine mt_cell 2 hL (by decide) (fun r2 => ?_)
  refine mt_cell 3 hL (by decide) (fun r3 => ?_)
  exact ⟨18, 272, by decide, by decide, mt_lawOf r0 r1 r2 r3 rfl⟩
end
