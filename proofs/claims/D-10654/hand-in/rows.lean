section
/-! what a character may be -/
def qm_dig (c : Int32) : Prop := ¬ c < 48 ∧ ¬ 57 < c
def qm_let (c : Int32) : Prop := ¬ c < 97 ∧ ¬ 104 < c
def qm_sig (c : Int32) : Prop := c = 61 ∨ c = 59 ∨ c = 63 ∨ c = 35 ∨ c = 123 ∨ c = 125 ∨ c = 40 ∨ c = 41 ∨ c = 43 ∨ c = 45 ∨ c = 42 ∨ c = 60 ∨ c = 38
def qm_ok (c : Int32) : Prop := qm_dig c ∨ qm_let c ∨ qm_sig c
/-! the law's known, the class's three questions -/
theorem qm_k28 {post : Int32 → Prop} {c : Int32} (h1 : qm_sig c → post 1) (h0 : ¬ qm_sig c → post 0) : wL_known_28 post c := by
  unfold wL_known_28
  iterate 13 refine br_c (fun e => h1 (by unfold qm_sig; simp only [e, true_or, or_true])) (fun _ => ?_)
  exact h0 (by
    unfold qm_sig
    rintro (h | h | h | h | h | h | h | h | h | h | h | h | h) <;> contradiction)
theorem qm_sign {post : Int32 → Prop} {c : Int32} (h1 : qm_sig c → post 1) (h0 : ¬ qm_sig c → post 0) : wpX_isSign post () c := by
  unfold wpX_isSign
  iterate 13 refine br_c (fun e => h1 (by unfold qm_sig; simp only [e, true_or, or_true])) (fun _ => ?_)
  exact h0 (by
    unfold qm_sig
    rintro (h | h | h | h | h | h | h | h | h | h | h | h | h) <;> contradiction)
theorem qm_digit {post : Int32 → Prop} {c : Int32} (h1 : qm_dig c → post 1) (h0 : ¬ qm_dig c → post 0) : wpX_isDigit post () c :=
  br_c (fun e => h0 (fun z => z.1 e)) (fun e => br_c (fun g => h0 (fun z => z.2 g)) (fun g => h1 ⟨e, g⟩))
theorem qm_letter {post : Int32 → Prop} {c : Int32} (h1 : qm_let c → post 1) (h0 : ¬ qm_let c → post 0) : wpX_isLetter post () c :=
  br_c (fun e => h0 (fun z => z.1 e)) (fun e => br_c (fun g => h0 (fun z => z.2 g)) (fun g => h1 ⟨e, g⟩))
theorem qm_k14 {post : Int32 → Prop} {c : Int32} (hd : ¬ qm_dig c) (h1 : qm_ok c → post 1) (h0 : ¬ qm_ok c → post 0) : wL_known_14 post c := by
  have k : ¬ qm_let c → wL_known_28 post c := fun hl => qm_k28 (fun g => h1 (Or.inr (Or.inr g))) (fun g => h0 (fun z => z.elim hd (fun z => z.elim hl g)))
  exact br_c (fun e => k (fun z => z.1 e)) (fun e => br_c (fun g => k (fun z => z.2 g)) (fun g => h1 (Or.inr (Or.inl ⟨e, g⟩))))
theorem qm_known {post : Int32 → Prop} {c : Int32} (h1 : qm_ok c → post 1) (h0 : ¬ qm_ok c → post 0) : wpL_known post () c :=
  br_c (fun e => qm_k14 (fun z => z.1 e) h1 h0) (fun e => br_c (fun g => qm_k14 (fun z => z.2 g) h1 h0) (fun g => h1 (Or.inl ⟨e, g⟩)))
/-! a place of the variables -/
theorem qm_in8 {x : Int32} (h0 : ¬ x < 0) (h7 : x ≤ 7) : vp_in x 8 := by
  rw [vp_in_iff]
  rw [Int32.lt_iff_toInt_lt] at h0
  rw [Int32.le_iff_toInt_le] at h7
  have e0 : (0 : Int32).toInt = 0 := by decide
  have e7 : (7 : Int32).toInt = 7 := by decide
  rw [e0] at h0
  rw [e7] at h7
  omega
theorem qm_ne {x y : Int32} (hx : vp_in x 8) (hy : vp_in y 8) (h : ¬ x = y) : y.toNatClampNeg ≠ x.toNatClampNeg := by
  obtain ⟨j, hj, rfl⟩ := vp_in_of hx (by decide)
  obtain ⟨k, hk, rfl⟩ := vp_in_of hy (by decide)
  rw [nI_clamp (by omega), nI_clamp (by omega)]
  intro e
  exact h (by rw [e])
/-! a cell of the script -/
theorem qm_cell {post : Int32 → Prop} {xs : Nat → Int32} {L : Nat} (k : Nat) (hL : L ≤ 4) (hk : k < 4) (h : ∀ v, post v) : wpL_cellAt post L xs () (nI k) :=
  pk_le L k (fun _ => h 0) (fun z => ⟨pk_in k L z, h _⟩)
end
section
/-! the class's methods, on the roads that a source of at most one character takes -/
theorem qm_feed {post : Int32 → St2 → Prop} {c : Int32} {f0_at f0_wrong f0_deep f0_nodes f0_trees f0_waiting f0_inside f0_blocks f0_ready f0_length f0_head f0_tail f0_running f0_stored : Int32} {a1 a2 a3 a4 a5 a6 a7 a8 a9 a10 a11 a12 a13 : Nat → Int32} (h1 : qm_ok c → post 1 (1, f0_at, f0_wrong, f0_deep, f0_nodes, f0_trees, f0_waiting, f0_inside, f0_blocks, f0_ready, f0_length, f0_head, f0_tail, f0_running, f0_stored, (upd a1 (0 : Int32).toNatClampNeg (vp_nar .char c)), a2, a3, a4, a5, a6, a7, a8, a9, a10, a11, a12, a13)) (h0 : ¬ qm_ok c → post (-1) (0, f0_at, f0_wrong, f0_deep, f0_nodes, f0_trees, f0_waiting, f0_inside, f0_blocks, f0_ready, f0_length, f0_head, f0_tail, f0_running, f0_stored, a1, a2, a3, a4, a5, a6, a7, a8, a9, a10, a11, a12, a13)) : wpX_feed post (0, f0_at, f0_wrong, f0_deep, f0_nodes, f0_trees, f0_waiting, f0_inside, f0_blocks, f0_ready, f0_length, f0_head, f0_tail, f0_running, f0_stored, a1, a2, a3, a4, a5, a6, a7, a8, a9, a10, a11, a12, a13) c := by
  have g1 : qm_ok c → ∀ x : Int32, ¬ x = 0 → wX_feed_23 post c x 0 f0_at f0_wrong f0_deep f0_nodes f0_trees f0_waiting f0_inside f0_blocks f0_ready f0_length f0_head f0_tail f0_running f0_stored a1 a2 a3 a4 a5 a6 a7 a8 a9 a10 a11 a12 a13 := fun k x hx => br_f hx (br_t (by decide) ⟨pk_in 0 80 (by decide), nm_e (nm_r (show (0 : Int32) + 1 = 1 by decide) (h1 k))⟩)
  have g0 : ¬ qm_ok c → wX_feed_23 post c 0 0 f0_at f0_wrong f0_deep f0_nodes f0_trees f0_waiting f0_inside f0_blocks f0_ready f0_length f0_head f0_tail f0_running f0_stored a1 a2 a3 a4 a5 a6 a7 a8 a9 a10 a11 a12 a13 := fun k => br_t rfl (h0 k)
  have g4 : ¬ qm_dig c → ¬ qm_let c → wX_feed_14 post c 0 0 f0_at f0_wrong f0_deep f0_nodes f0_trees f0_waiting f0_inside f0_blocks f0_ready f0_length f0_head f0_tail f0_running f0_stored a1 a2 a3 a4 a5 a6 a7 a8 a9 a10 a11 a12 a13 := fun d l => br_t rfl (qm_sign (fun s => g1 (Or.inr (Or.inr s)) 1 (by decide)) (fun s => g0 (fun z => z.elim d (fun z => z.elim l s))))
  unfold wpX_feed
  exact qm_digit (fun d => br_f (by decide) (br_f (by decide) (g1 (Or.inl d) 1 (by decide)))) (fun d => br_t rfl (qm_letter (fun l => br_f (by decide) (g1 (Or.inr (Or.inl l)) 1 (by decide))) (fun l => g4 d l)))
theorem qm_d0 {post : Int32 → Prop} (h : post 0) : wpX_isDigit post () 0 := br_t (by decide) h
theorem qm_l0 {post : Int32 → Prop} (h : post 0) : wpX_isLetter post () 0 := br_t (by decide) h
/-- behind the source's end -/
theorem qm_peekE {post : Int32 → Prop} {f0_size f0_at f0_wrong f0_deep f0_nodes f0_trees f0_waiting f0_inside f0_blocks f0_ready f0_length f0_head f0_tail f0_running f0_stored : Int32} {a1 a2 a3 a4 a5 a6 a7 a8 a9 a10 a11 a12 a13 : Nat → Int32} (hs : f0_size ≤ f0_at) (h : post 0) : wpX_peek post (f0_size, f0_at, f0_wrong, f0_deep, f0_nodes, f0_trees, f0_waiting, f0_inside, f0_blocks, f0_ready, f0_length, f0_head, f0_tail, f0_running, f0_stored, a1, a2, a3, a4, a5, a6, a7, a8, a9, a10, a11, a12, a13) := br_t hs h
theorem qm_acceptE {post : Int32 → St2 → Prop} {p : Int32} {f0_size f0_at f0_wrong f0_deep f0_nodes f0_trees f0_waiting f0_inside f0_blocks f0_ready f0_length f0_head f0_tail f0_running f0_stored : Int32} {a1 a2 a3 a4 a5 a6 a7 a8 a9 a10 a11 a12 a13 : Nat → Int32} (hs : f0_size ≤ f0_at) (hp : ¬ 0 = p) (h : post 0 (f0_size, f0_at, 1, f0_deep, f0_nodes, f0_trees, f0_waiting, f0_inside, f0_blocks, f0_ready, f0_length, f0_head, f0_tail, f0_running, f0_stored, a1, a2, a3, a4, a5, a6, a7, a8, a9, a10, a11, a12, a13)) : wpX_accept post (f0_size, f0_at, f0_wrong, f0_deep, f0_nodes, f0_trees, f0_waiting, f0_inside, f0_blocks, f0_ready, f0_length, f0_head, f0_tail, f0_running, f0_stored, a1, a2, a3, a4, a5, a6, a7, a8, a9, a10, a11, a12, a13) p := by
  unfold wpX_accept
  exact qm_peekE hs (br_f hp h)
theorem qm_operandE {post : Int32 → St2 → Prop} {f0_size f0_at f0_wrong f0_deep f0_nodes f0_trees f0_waiting f0_inside f0_blocks f0_ready f0_length f0_head f0_tail f0_running f0_stored : Int32} {a1 a2 a3 a4 a5 a6 a7 a8 a9 a10 a11 a12 a13 : Nat → Int32} (hs : f0_size ≤ f0_at) (h : post 0 (f0_size, (f0_at + 1), 1, f0_deep, f0_nodes, f0_trees, f0_waiting, f0_inside, f0_blocks, f0_ready, f0_length, f0_head, f0_tail, f0_running, f0_stored, a1, a2, a3, a4, a5, a6, a7, a8, a9, a10, a11, a12, a13)) : wpX_readOperand post (f0_size, f0_at, f0_wrong, f0_deep, f0_nodes, f0_trees, f0_waiting, f0_inside, f0_blocks, f0_ready, f0_length, f0_head, f0_tail, f0_running, f0_stored, a1, a2, a3, a4, a5, a6, a7, a8, a9, a10, a11, a12, a13) := by
  unfold wpX_readOperand
  exact qm_peekE hs (qm_d0 (br_t rfl (qm_l0 (br_t rfl (br_f (by decide) (br_f (by decide) (nm_e h)))))))
theorem qm_sumE {post : St2 → Prop} {f0_size f0_at f0_deep f0_nodes f0_trees f0_waiting f0_inside f0_blocks f0_ready f0_length f0_head f0_tail f0_running f0_stored : Int32} {a1 a2 a3 a4 a5 a6 a7 a8 a9 a10 a11 a12 a13 : Nat → Int32} (hs : f0_size ≤ f0_at) (h : post (f0_size, (f0_at + 1), 1, f0_deep, 0, 0, 0, 0, f0_blocks, f0_ready, f0_length, f0_head, f0_tail, f0_running, f0_stored, a1, a2, a3, a4, a5, a6, a7, a8, a9, a10, a11, a12, a13)) : wpX_sum post (f0_size, f0_at, 0, f0_deep, f0_nodes, f0_trees, f0_waiting, f0_inside, f0_blocks, f0_ready, f0_length, f0_head, f0_tail, f0_running, f0_stored, a1, a2, a3, a4, a5, a6, a7, a8, a9, a10, a11, a12, a13) := by
  unfold wpX_sum
  refine ⟨2, br_f (by decide) (br_f (by decide) (br_t rfl (br_f (by decide) (qm_operandE hs (br_t rfl (nm_e ?_))))))⟩
  exact br_f (by decide) (br_f (by decide) (br_f (by decide) (br_f (by decide) h)))
theorem qm_turnsE {post : St2 → Prop} {f0_size f0_at f0_wrong f0_deep f0_nodes f0_trees f0_waiting f0_inside f0_blocks f0_ready f0_length f0_head f0_tail f0_running f0_stored : Int32} {a1 a2 a3 a4 a5 a6 a7 a8 a9 a10 a11 a12 a13 : Nat → Int32} (hs : f0_size ≤ f0_at) (h : post (f0_size, f0_at, 1, f0_deep, f0_nodes, f0_trees, f0_waiting, f0_inside, f0_blocks, f0_ready, f0_length, f0_head, f0_tail, f0_running, f0_stored, a1, a2, a3, a4, a5, a6, a7, a8, a9, a10, a11, a12, a13)) : wpX_turns post (f0_size, f0_at, f0_wrong, f0_deep, f0_nodes, f0_trees, f0_waiting, f0_inside, f0_blocks, f0_ready, f0_length, f0_head, f0_tail, f0_running, f0_stored, a1, a2, a3, a4, a5, a6, a7, a8, a9, a10, a11, a12, a13) := by
  unfold wpX_turns
  exact qm_peekE hs (qm_d0 (br_t rfl h))
theorem qm_close0 {post : St2 → Prop} {f0_size f0_at f0_wrong f0_deep f0_nodes f0_trees f0_waiting f0_inside f0_ready f0_length f0_head f0_tail f0_running f0_stored : Int32} {a1 a2 a3 a4 a5 a6 a7 a8 a9 a10 a11 a12 a13 : Nat → Int32} (h : post (f0_size, f0_at, 1, f0_deep, f0_nodes, f0_trees, f0_waiting, f0_inside, 0, f0_ready, f0_length, f0_head, f0_tail, f0_running, f0_stored, a1, a2, a3, a4, a5, a6, a7, a8, a9, a10, a11, a12, a13)) : wpX_close post (f0_size, f0_at, f0_wrong, f0_deep, f0_nodes, f0_trees, f0_waiting, f0_inside, 0, f0_ready, f0_length, f0_head, f0_tail, f0_running, f0_stored, a1, a2, a3, a4, a5, a6, a7, a8, a9, a10, a11, a12, a13) := br_t rfl h
theorem qm_open0 {post : St2 → Prop} {p x : Int32} {f0_size f0_at f0_wrong f0_deep f0_nodes f0_trees f0_waiting f0_inside f0_ready f0_head f0_tail f0_running f0_stored : Int32} {a1 a2 a3 a4 a5 a6 a7 a8 a9 a10 a11 a12 a13 : Nat → Int32} (h : ∀ (f0_blocks f0_length : Int32) (a8 a9 a10 : Nat → Int32), post (f0_size, f0_at, f0_wrong, f0_deep, f0_nodes, f0_trees, f0_waiting, f0_inside, f0_blocks, f0_ready, f0_length, f0_head, f0_tail, f0_running, f0_stored, a1, a2, a3, a4, a5, a6, a7, a8, a9, a10, a11, a12, a13)) : wpX_open post (f0_size, f0_at, f0_wrong, f0_deep, f0_nodes, f0_trees, f0_waiting, f0_inside, 0, f0_ready, 0, f0_head, f0_tail, f0_running, f0_stored, a1, a2, a3, a4, a5, a6, a7, a8, a9, a10, a11, a12, a13) p x :=
  br_f (by decide) ⟨pk_in 0 40 (by decide), nm_e (nm_e (br_t (by decide) (br_t (by decide) ⟨pk_in 0 200 (by decide), nm_e ⟨pk_in 0 200 (by decide), nm_e (nm_e (h _ _ _ _ _))⟩⟩)))⟩
/-- a syntax error was seen, the program isn't ready, the variables are V -/
def qm_H (V : Nat → Int32) (post : St2 → Prop) : Prop := ∀ (f0_size f0_at f0_deep f0_nodes f0_trees f0_waiting f0_inside f0_blocks f0_length f0_head f0_tail f0_running f0_stored : Int32) (a1 a2 a3 a4 a5 a6 a7 a8 a9 a10 a11 a12 : Nat → Int32), post (f0_size, f0_at, 1, f0_deep, f0_nodes, f0_trees, f0_waiting, f0_inside, f0_blocks, 0, f0_length, f0_head, f0_tail, f0_running, f0_stored, a1, a2, a3, a4, a5, a6, a7, a8, a9, a10, a11, a12, V)
theorem qm_stmt {post : St2 → Prop} {f0_deep f0_nodes f0_trees f0_waiting f0_inside f0_head f0_tail f0_running f0_stored : Int32} {a1 a2 a3 a4 a5 a6 a7 a8 a9 a10 a11 a12 a13 : Nat → Int32} (hn : narrow .char (.int (a1 (0 : Int32).toNatClampNeg)) = .int (a1 (0 : Int32).toNatClampNeg)) (h : qm_H a13 post) : wpX_statement post (1, 0, 0, f0_deep, f0_nodes, f0_trees, f0_waiting, f0_inside, 0, 0, 0, f0_head, f0_tail, f0_running, f0_stored, a1, a2, a3, a4, a5, a6, a7, a8, a9, a10, a11, a12, a13) := by
  unfold wpX_statement
  refine br_f (by decide) ⟨pk_in 0 80 (by decide), hn, nm_e (qm_letter (fun _ => br_f (by decide) ?_) (fun _ => br_t rfl (br_c (fun _ => ?_) (fun _ => br_c (fun _ => ?_) (fun _ => br_c (fun _ => ?_) (fun _ => ?_))))))⟩
  · exact qm_acceptE (by decide) (by decide) (br_f (by decide) (h _ _ _ _ _ _ _ _ _ _ _ _ _ _ _ _ _ _ _ _ _ _ _ _ _))
  · exact qm_sumE (by decide) (qm_acceptE (by decide) (by decide) (qm_open0 (fun _ _ _ _ _ => h _ _ _ _ _ _ _ _ _ _ _ _ _ _ _ _ _ _ _ _ _ _ _ _ _)))
  · exact qm_turnsE (by decide) (h _ _ _ _ _ _ _ _ _ _ _ _ _ _ _ _ _ _ _ _ _ _ _ _ _)
  · exact qm_close0 (h _ _ _ _ _ _ _ _ _ _ _ _ _ _ _ _ _ _ _ _ _ _ _ _ _)
  · exact h _ _ _ _ _ _ _ _ _ _ _ _ _ _ _ _ _ _ _ _ _ _ _ _ _
/-- one character, whichever: a syntax error -/
theorem qm_comp1 {post : Int32 → St2 → Prop} {f0_at f0_wrong f0_deep f0_nodes f0_trees f0_waiting f0_inside f0_blocks f0_ready f0_length f0_head f0_tail f0_running f0_stored : Int32} {a1 a2 a3 a4 a5 a6 a7 a8 a9 a10 a11 a12 a13 : Nat → Int32} (hn : narrow .char (.int (a1 (0 : Int32).toNatClampNeg)) = .int (a1 (0 : Int32).toNatClampNeg)) (h : qm_H a13 (post 1)) : wpX_compile post (1, f0_at, f0_wrong, f0_deep, f0_nodes, f0_trees, f0_waiting, f0_inside, f0_blocks, f0_ready, f0_length, f0_head, f0_tail, f0_running, f0_stored, a1, a2, a3, a4, a5, a6, a7, a8, a9, a10, a11, a12, a13) := by
  unfold wpX_compile
  refine ⟨2, br_f (by decide) (br_f (by decide) (br_t rfl (qm_stmt hn ?_)))⟩
  exact fun _ _ _ _ _ _ _ _ _ _ _ _ _ _ _ _ _ _ _ _ _ _ _ _ _ => nm_e (br_f (by decide) (br_c (fun _ => br_f (by decide) (h _ _ _ _ _ _ _ _ _ _ _ _ _ _ _ _ _ _ _ _ _ _ _ _ _)) (fun _ => br_f (by decide) (br_f (by decide) (h _ _ _ _ _ _ _ _ _ _ _ _ _ _ _ _ _ _ _ _ _ _ _ _ _)))))
/-- an empty source: ready -/
theorem qm_comp0 {post : Int32 → St2 → Prop} {f0_at f0_wrong f0_deep f0_nodes f0_trees f0_waiting f0_inside f0_blocks f0_ready f0_length f0_head f0_tail f0_running f0_stored : Int32} {a1 a2 a3 a4 a5 a6 a7 a8 a9 a10 a11 a12 a13 : Nat → Int32} (h : post 0 (0, 0, 0, 0, f0_nodes, f0_trees, f0_waiting, f0_inside, 0, 1, 0, f0_head, f0_tail, f0_running, f0_stored, a1, a2, a3, a4, a5, a6, a7, a8, a9, a10, a11, a12, a13)) : wpX_compile post (0, f0_at, f0_wrong, f0_deep, f0_nodes, f0_trees, f0_waiting, f0_inside, f0_blocks, f0_ready, f0_length, f0_head, f0_tail, f0_running, f0_stored, a1, a2, a3, a4, a5, a6, a7, a8, a9, a10, a11, a12, a13) := by
  unfold wpX_compile
  exact ⟨1, br_f (by decide) (br_t (by decide) (br_t rfl (br_t (by decide) (br_t rfl h))))⟩
theorem qm_get0 {post : Int32 → Prop} {x : Int32} {f0_size f0_at f0_wrong f0_deep f0_nodes f0_trees f0_waiting f0_inside f0_blocks f0_ready f0_length f0_head f0_tail f0_running f0_stored : Int32} {a1 a2 a3 a4 a5 a6 a7 a8 a9 a10 a11 a12 : Nat → Int32} (h : post 0) : wpX_get post (f0_size, f0_at, f0_wrong, f0_deep, f0_nodes, f0_trees, f0_waiting, f0_inside, f0_blocks, f0_ready, f0_length, f0_head, f0_tail, f0_running, f0_stored, a1, a2, a3, a4, a5, a6, a7, a8, a9, a10, a11, a12, (fun _ => 0)) x :=
  br_c (fun _ => h) (fun g => br_c (fun k => ⟨qm_in8 g k, h⟩) (fun _ => h))
theorem qm_getU {post : Int32 → Prop} {x v y : Int32} {f0_size f0_at f0_wrong f0_deep f0_nodes f0_trees f0_waiting f0_inside f0_blocks f0_ready f0_length f0_head f0_tail f0_running f0_stored : Int32} {a1 a2 a3 a4 a5 a6 a7 a8 a9 a10 a11 a12 : Nat → Int32} (g0 : ¬ x < 0) (g7 : x ≤ 7) (h1 : x = y → post v) (h0 : ¬ x = y → post 0) : wpX_get post (f0_size, f0_at, f0_wrong, f0_deep, f0_nodes, f0_trees, f0_waiting, f0_inside, f0_blocks, f0_ready, f0_length, f0_head, f0_tail, f0_running, f0_stored, a1, a2, a3, a4, a5, a6, a7, a8, a9, a10, a11, a12, (upd (fun _ => 0) x.toNatClampNeg v)) y := by
  refine br_c (fun g => h0 (fun e => g0 (e ▸ g))) (fun g => br_c (fun k => ⟨qm_in8 g k, ?_⟩) (fun k => h0 (fun e => k (e ▸ g7))))
  by_cases e : x = y
  · have t := h1 e
    subst e
    show post (upd (fun _ => 0) x.toNatClampNeg v x.toNatClampNeg)
    rw [pk_us]
    exact t
  · show post (upd (fun _ => 0) x.toNatClampNeg v y.toNatClampNeg)
    rw [pk_un (qm_ne (qm_in8 g0 g7) (qm_in8 g k) e)]
    exact h0 e
theorem qm_init {post : St2 → Prop} (h : post (0, 0, 0, 0, 0, 0, 0, 0, 0, 0, 0, 0, 0, 0, 0, (fun _ => 0), (fun _ => 0), (fun _ => 0), (fun _ => 0), (fun _ => 0), (fun _ => 0), (fun _ => 0), (fun _ => 0), (fun _ => 0), (fun _ => 0), (fun _ => 0), (fun _ => 0), (fun _ => 0))) : wpX_init post 13 1236 (0, 0, 0, 0, 0, 0, 0, 0, 0, 0, 0, 0, 0, 0, 0) := by
  unfold wpX_init
  exact ⟨by decide, by decide, by decide, by decide, by decide, by decide, by decide, by decide, by decide, by decide, by decide, by decide, by decide, by decide, by decide, by decide, by decide, by decide, by decide, by decide, by decide, by decide, by decide, by decide, by decide, by decide, h⟩
end
section
/-! the law's joins, from its end back -/
theorem qm_153 {mc ms kc ks : Nat} {v : Int32} : wL_lawOf_153 (fun r _ => r = 1) mc ms v v kc ks := br_t rfl rfl
theorem qm_152 {mc ms kc ks : Nat} : wL_lawOf_152 (fun r _ => r = 1) mc ms 0 kc ks := br_t rfl rfl
/-- set and get behind any state whose variables are all 0 -/
theorem qm_tail {mc ms kc ks : Nat} {x1 x2 x3 z : Int32} {f0_size f0_at f0_wrong f0_deep f0_nodes f0_trees f0_waiting f0_inside f0_blocks f0_ready f0_length f0_head f0_tail f0_running f0_stored : Int32} {a1 a2 a3 a4 a5 a6 a7 a8 a9 a10 a11 a12 : Nat → Int32} : wL_lawOf_87 (fun r _ => r = 1) mc ms x1 x2 x3 z z kc ks f0_size f0_at f0_wrong f0_deep f0_nodes f0_trees f0_waiting f0_inside f0_blocks f0_ready f0_length f0_head f0_tail f0_running f0_stored a1 a2 a3 a4 a5 a6 a7 a8 a9 a10 a11 a12 (fun _ => 0) := by
  have bad : (∀ P : Int32 → St2 → Prop, P (-4) (f0_size, f0_at, f0_wrong, f0_deep, f0_nodes, f0_trees, f0_waiting, f0_inside, f0_blocks, f0_ready, f0_length, f0_head, f0_tail, f0_running, f0_stored, a1, a2, a3, a4, a5, a6, a7, a8, a9, a10, a11, a12, (fun _ => 0)) → wpX_set P (f0_size, f0_at, f0_wrong, f0_deep, f0_nodes, f0_trees, f0_waiting, f0_inside, f0_blocks, f0_ready, f0_length, f0_head, f0_tail, f0_running, f0_stored, a1, a2, a3, a4, a5, a6, a7, a8, a9, a10, a11, a12, (fun _ => 0)) x1 x2) → wL_lawOf_102 (fun r _ => r = 1) mc ms x1 x2 x3 kc ks f0_size f0_at f0_wrong f0_deep f0_nodes f0_trees f0_waiting f0_inside f0_blocks f0_ready f0_length f0_head f0_tail f0_running f0_stored a1 a2 a3 a4 a5 a6 a7 a8 a9 a10 a11 a12 (fun _ => 0) := by
    intro hs
    unfold wL_lawOf_102 wL_lawOf_107
    exact hs _ (br_f (by decide) (br_t rfl (qm_get0 (br_f (by decide) qm_152))))
  refine br_t rfl (br_c (fun g => bad (fun P hP => br_t g hP)) (fun g => br_c (fun k => ?_) (fun k => bad (fun P hP => br_f g (br_f k hP)))))
  unfold wL_lawOf_107
  refine br_f g (br_t k ⟨qm_in8 g k, nm_e ?_⟩)
  exact br_t rfl (br_t rfl (qm_getU g k (fun e => br_t rfl (br_t e qm_153)) (fun e => br_t rfl (br_f e qm_152))))
theorem qm_lawOf (p0 p1 p2 p3 : Int32) : wpL_lawOf (fun r _ => r = 1) 14 1264 () p0 p1 p2 p3 := by
  unfold wpL_lawOf
  refine ⟨by decide, by decide, 13, 1236, by decide, by decide, qm_init ?_⟩
  refine nm_e (qm_known (fun k => br_t rfl (br_t rfl (qm_feed (fun _ => br_f (by decide) ?_) (fun z => absurd k z)))) (fun k => br_t rfl (br_t rfl (qm_feed (fun z => absurd z k) (fun _ => br_t rfl ?_)))))
  · refine br_t rfl (qm_comp1 ?_ (fun _ _ _ _ _ _ _ _ _ _ _ _ _ _ _ _ _ _ _ _ _ _ _ _ _ => br_f (by decide) (br_t rfl ⟨rfl, br_f (by decide) qm_tail⟩)))
    rw [pk_us, pk_vc]
    exact pk_nc p0
  · exact br_t rfl (qm_comp0 (br_t rfl (br_t rfl ⟨rfl, br_t rfl qm_tail⟩)))
theorem i_vc (xs : Nat → Int32) (L : Nat) (hL : L ≤ 4) : wpL_law (fun r => r = 1) L xs := by
  unfold wpL_law
  exact qm_cell 0 hL (by decide) (fun r0 => qm_cell 1 hL (by decide) (fun r1 => qm_cell 2 hL (by decide) (fun r2 => qm_cell 3 hL (by decide) (fun r3 => ⟨14, 1264, by decide, by decide, qm_lawOf r0 r1 r2 r3⟩))))
end
