section
section
variable {g1 g2 g3 g4 g5 g6 g7 g8 : Int32} {a1 a2 a3 a4 a5 a6 a7 a8 a9 a10 a11 a12 a13 : Nat → Int32}
theorem fk_n0 : (0 : Int32).toInt = 0 := by decide
theorem fk_n1 : (1 : Int32).toInt = 1 := by decide
theorem fk_n7 : (7 : Int32).toInt = 7 := by decide
theorem fk_n8 : (8 : Int32).toInt = 8 := by decide
theorem fk_n9 : (9 : Int32).toInt = 9 := by decide
theorem fk_n10 : (10 : Int32).toInt = 10 := by decide
theorem fk_n12 : (12 : Int32).toInt = 12 := by decide
theorem fk_n13 : (13 : Int32).toInt = 13 := by decide
theorem fk_n31 : (31 : Int32).toInt = 31 := by decide
theorem fk_lt (x y : Int32) : (x < y) = (x.toInt < y.toInt) := propext Int32.lt_iff_toInt_lt
theorem fk_le (x y : Int32) : (x ≤ y) = (x.toInt ≤ y.toInt) := propext Int32.le_iff_toInt_le
theorem fk_eq (x y : Int32) : (x = y) = (x.toInt = y.toInt) := propext Int32.toInt_inj.symm
/-- what counts as an instruction -/
def fk_fit (p0 p1 : Int32) : Prop := 0 ≤ p0.toInt ∧ p0.toInt ≤ 13 ∧ (1 ≤ p0.toInt ∧ p0.toInt ≤ 7 → 0 ≤ p1.toInt ∧ p1.toInt ≤ 7) ∧ (p0.toInt = 8 ∨ p0.toInt = 9 → 1 ≤ p1.toInt ∧ p1.toInt ≤ 7) ∧ (10 ≤ p0.toInt ∧ p0.toInt ≤ 12 → 0 ≤ p1.toInt ∧ p1.toInt ≤ 31)
/-- a cell of the memory -/
def fk_good (c : Int32) : Prop := 0 ≤ c.toInt ∧ c.toInt ≤ 7
/-- a flag that says whether c holds -/
def fk_fl (c : Prop) (x : Int32) : Prop := (c → x = 1) ∧ (¬ c → x = 0)
theorem fk_isI {post : Int32 → Prop} {p0 p1 : Int32} (H1 : fk_fit p0 p1 → post 1) (H0 : ¬ fk_fit p0 p1 → post 0) : wpX_isInstruction post (g1, g2, g3, g4, g5, g6, g7, g8, a1, a2, a3, a4, a5, a6, a7, a8, a9, a10, a11, a12, a13) p0 p1 := by
  unfold fk_fit at H1 H0
  unfold wpX_isInstruction
  dsimp only
  simp only [fk_lt, fk_le, fk_eq, fk_n0, fk_n1, fk_n7, fk_n8, fk_n9, fk_n10, fk_n12, fk_n13, fk_n31]
  generalize p0.toInt = x at *
  generalize p1.toInt = y at *
  repeat' (first | (refine And.intro ?_ ?_) | intro _)
  all_goals first | exact H1 (by omega) | exact H0 (by omega)
theorem fk_fit13 (a : Int32) : fk_fit 13 a := by
  unfold fk_fit
  rw [fk_n13]
  omega
theorem fk_fill {s : Nat → Int32} {i k : Nat} (hk : k = i) (h : ∀ j, j < i → s j = -1) : ∀ j, j < i + 1 → upd s k (-1) j = -1 := by
  intro j hj
  rw [hk]
  by_cases e : j = i
  · rw [e, pk_us]
  · rw [pk_un e]
    exact h j (by omega)
theorem fk_forget {post : St2 → Prop} (H : ∀ b : Nat → Int32, (∀ j, j < 297 → b j = -1) → post (g1, g2, g3, g4, g5, 0, 0, g8, a1, a2, a3, a4, b, a6, a7, a8, a9, a10, a11, a12, a13)) : wpX_forgetBlocks post (g1, g2, g3, g4, g5, g6, g7, g8, a1, a2, a3, a4, a5, a6, a7, a8, a9, a10, a11, a12, a13) :=
  pk_loop (fun n i s => wX_forgetBlocks_2 post g1 g2 g3 g4 g5 g6 g7 g8 n (nI i) a1 a2 a3 a4 s a6 a7 a8 a9 a10 a11 a12 a13) (fun i s => ∀ j, j < i → s j = -1) 297 0 a5 (by omega) (fun j hj => absurd hj (by omega))
    (fun n s h => pk_le 297 297 (fun _ => H s h) (fun z => absurd z (by omega)))
    (fun n i s hi h hw => pk_le 297 i (fun z => absurd z (by omega)) (fun _ => ⟨pk_in i 297 hi, nm_e (nm_r (nI_1 i) (hw _ (fk_fill (nI_clamp (by omega)) h)))⟩))
theorem fk_init {post : St2 → Prop} (H : ∀ b : Nat → Int32, (∀ j, j < 297 → b j = -1) → post (g1, g2, g3, g4, g5, 0, 0, g8, (fun _ => 0), (fun _ => 0), (fun _ => 0), (fun _ => 0), b, (fun _ => 0), (fun _ => 0), (fun _ => 0), (fun _ => 0), (fun _ => 0), (fun _ => 0), (fun _ => 0), (fun _ => 0))) : wpX_init post 13 3091 (g1, g2, g3, g4, g5, g6, g7, g8) := by
  unfold wpX_init
  dsimp only
  refine ⟨by omega, by omega, by omega, by omega, by omega, by omega, by omega, by omega, by omega, by omega, by omega, by omega, by omega, by omega, by omega, by omega, by omega, by omega, by omega, by omega, by omega, by omega, by omega, by omega, by omega, by omega, ?_⟩
  exact fk_forget H
theorem fk_emit {post : Int32 → St2 → Prop} {p0 p1 : Int32} (H1 : fk_fit p0 p1 → ∀ b c d : Nat → Int32, post 1 (1, g2, g3, g4, g5, 0, 0, g8, b, c, a3, a4, d, a6, a7, a8, a9, a10, a11, a12, a13)) (H0 : ¬ fk_fit p0 p1 → post (-1) (0, g2, g3, g4, g5, g6, g7, g8, a1, a2, a3, a4, a5, a6, a7, a8, a9, a10, a11, a12, a13)) : wpX_emit post (0, g2, g3, g4, g5, g6, g7, g8, a1, a2, a3, a4, a5, a6, a7, a8, a9, a10, a11, a12, a13) p0 p1 := by
  unfold wpX_emit
  dsimp only
  refine br_t (by decide) (fk_isI (fun h => br_f (by decide) ⟨pk_in 0 32 (by omega), nm_e ⟨pk_in 0 32 (by omega), nm_e (nm_r (e' := 1) (by decide) (fk_forget (fun b _ => ?_)))⟩⟩) (fun h => br_t rfl (H0 h)))
  exact H1 h _ _ b
theorem fk_poke {post : Int32 → St2 → Prop} {p0 p1 : Int32} (H1 : fk_good p0 → post 1 (g1, g2, g3, g4, g5, g6, g7, g8, a1, a2, (upd a3 p0.toNatClampNeg p1), a4, a5, a6, a7, a8, a9, a10, a11, a12, a13)) (H0 : ¬ fk_good p0 → post 0 (g1, g2, g3, g4, g5, g6, g7, g8, a1, a2, a3, a4, a5, a6, a7, a8, a9, a10, a11, a12, a13)) : wpX_poke post (g1, g2, g3, g4, g5, g6, g7, g8, a1, a2, a3, a4, a5, a6, a7, a8, a9, a10, a11, a12, a13) p0 p1 := by
  unfold fk_good at H1 H0
  unfold wpX_poke
  dsimp only
  refine br_c (fun h => H0 ?_) (fun h => br_c (fun h2 => ?_) (fun h2 => H0 ?_))
  · rw [fk_lt, fk_n0] at h
    omega
  · rw [fk_lt, fk_n0] at h
    rw [fk_le, fk_n7] at h2
    exact ⟨vp_in_iff.mpr (by omega), nm_e (H1 (by omega))⟩
  · rw [fk_le, fk_n7] at h2
    omega
theorem fk_mem {post : Int32 → Prop} {p0 : Int32} (H1 : fk_good p0 → post (a3 p0.toNatClampNeg)) (H0 : ¬ fk_good p0 → post 0) : wpX_memory post (g1, g2, g3, g4, g5, g6, g7, g8, a1, a2, a3, a4, a5, a6, a7, a8, a9, a10, a11, a12, a13) p0 := by
  unfold fk_good at H1 H0
  unfold wpX_memory
  dsimp only
  refine br_c (fun h => H0 ?_) (fun h => br_c (fun h2 => ?_) (fun h2 => H0 ?_))
  · rw [fk_lt, fk_n0] at h
    omega
  · rw [fk_lt, fk_n0] at h
    rw [fk_le, fk_n7] at h2
    exact ⟨vp_in_iff.mpr (by omega), H1 (by omega)⟩
  · rw [fk_le, fk_n7] at h2
    omega
theorem fk_patchN {post : Int32 → St2 → Prop} {p0 p1 p2 : Int32} (hn : p0 < 0 ∨ g1 ≤ p0) (H : post (-1) (g1, g2, g3, g4, g5, g6, g7, g8, a1, a2, a3, a4, a5, a6, a7, a8, a9, a10, a11, a12, a13)) : wpX_patch post (g1, g2, g3, g4, g5, g6, g7, g8, a1, a2, a3, a4, a5, a6, a7, a8, a9, a10, a11, a12, a13) p0 p1 p2 := by
  unfold wpX_patch
  dsimp only
  exact br_c (fun _ => H) (fun h => br_t (hn.resolve_left h) H)
theorem fk_patch1 {post : Int32 → St2 → Prop} {p2 : Int32} (H : ∀ c d : Nat → Int32, (∀ j, j < 297 → d j = -1) → post 1 (1, g2, g3, g4, g5, 0, 0, g8, (upd a1 0 13), c, a3, a4, d, a6, a7, a8, a9, a10, a11, a12, a13)) : wpX_patch post (1, g2, g3, g4, g5, g6, g7, g8, a1, a2, a3, a4, a5, a6, a7, a8, a9, a10, a11, a12, a13) 0 13 p2 := by
  unfold wpX_patch
  dsimp only
  refine br_f (by decide) (br_f (by decide) (fk_isI (fun h => br_f (by decide) ⟨pk_in 0 32 (by omega), nm_r (e' := upd a1 0 13) rfl ⟨pk_in 0 32 (by omega), nm_e (fk_forget (fun d hd => ?_))⟩⟩) (fun h => absurd (fk_fit13 p2) h)))
  exact H _ d hd
end
end
section
section
variable {g1 g2 g3 g4 g5 g6 g7 g8 : Int32} {a1 a2 a3 a4 a5 a6 a7 a8 a9 a10 a11 a12 a13 : Nat → Int32}
theorem fk_faults {post : Int32 → Prop} {p0 p1 p2 : Int32} (h : p0 = 13) (H : post 0) : wpX_faults post (g1, g2, g3, g4, g5, g6, g7, g8, a1, a2, a3, a4, a5, a6, a7, a8, a9, a10, a11, a12, a13) p0 p1 p2 := by
  subst h
  unfold wpX_faults
  dsimp only
  exact br_f (by decide) (br_f (by decide) (br_f (by decide) (br_f (by decide) (br_f (by decide) (br_f (by decide) (br_f (by decide) (br_t rfl H)))))))
theorem fk_straight {post : St2 → Prop} (H : post (g1, g2, g3, g4, g5, g6, g7, 0, a1, a2, a3, a4, a5, a6, a7, a8, a9, a10, a11, a12, a13)) : wpX_straighten post (g1, g2, g3, g4, g5, g6, g7, 0, a1, a2, a3, a4, a5, a6, a7, a8, a9, a10, a11, a12, a13) :=
  ⟨1, br_t (by decide) H⟩
theorem fk_write {post : St2 → Prop} (H : post (g1, g2, g3, g4, g5, g6, 1, 0, a1, a2, a3, a4, a5, a6, a7, a8, (upd a9 0 10), (upd a10 0 0), (upd a11 0 0), (upd a12 0 0), a13)) : wpX_write post (g1, g2, g3, g4, g5, g6, 0, 0, a1, a2, a3, a4, a5, a6, a7, a8, a9, a10, a11, a12, a13) 10 0 0 0 := by
  unfold wpX_write
  dsimp only
  exact ⟨pk_in 0 640 (by omega), nm_r (e' := upd a9 0 10) rfl ⟨pk_in 0 640 (by omega), nm_r (e' := upd a10 0 0) rfl ⟨pk_in 0 640 (by omega), nm_r (e' := upd a11 0 0) rfl ⟨pk_in 0 640 (by omega), nm_r (e' := upd a12 0 0) rfl (nm_r (e' := 1) (by decide) H)⟩⟩⟩⟩
theorem fk_one {post : Int32 → St2 → Prop} (h : a1 0 = 13) (H : post 0 (g1, g2, g3, g4, g5, g6, 1, 0, a1, a2, a3, a4, a5, a6, a7, a8, (upd a9 0 10), (upd a10 0 0), (upd a11 0 0), (upd a12 0 0), a13)) : wpX_translateOne post (g1, g2, g3, g4, g5, g6, 0, 0, a1, a2, a3, a4, a5, a6, a7, a8, a9, a10, a11, a12, a13) 0 := by
  unfold wpX_translateOne
  dsimp only
  refine ⟨pk_in 0 32 (by omega), nm_r (e' := 13) h ⟨pk_in 0 32 (by omega), nm_e (br_f (by decide) (br_f (by decide) (br_f (by decide) (br_t rfl ?_))))⟩⟩
  unfold wX_translateOne_96
  refine fk_straight (br_f (by decide) ?_)
  unfold wX_translateOne_114
  refine br_f (by decide) ?_
  unfold wX_translateOne_125
  exact fk_write H
theorem fk_154 {post : St2 → Prop} (H : post (g1, g2, g3, g4, g5, g6, g7, g8, a1, a2, a3, a4, a5, a6, (upd a7 0 1), (upd a8 0 1), a9, a10, a11, a12, a13)) : wX_translate_154 post 0 1 0 g1 g2 g3 g4 g5 g6 g7 g8 a1 a2 a3 a4 a5 a6 a7 a8 a9 a10 a11 a12 a13 := by
  unfold wX_translate_154
  exact ⟨pk_in 0 48 (by omega), nm_r (e' := upd a8 0 1) rfl (br_t rfl ⟨pk_in 0 48 (by omega), nm_r (e' := upd a7 0 1) rfl H⟩)⟩
theorem fk_43 {post : St2 → Prop} (h : a1 0 = 13) (H : post (1, g2, g3, g4, g5, g6, 1, 0, a1, a2, a3, a4, a5, a6, (upd a7 0 1), (upd a8 0 1), (upd a9 0 10), (upd a10 0 0), (upd a11 0 0), (upd a12 0 0), a13)) : wX_translate_43 post 0 2 0 0 1 0 1 g2 g3 g4 g5 g6 0 0 a1 a2 a3 a4 a5 a6 a7 a8 a9 a10 a11 a12 a13 := by
  unfold wX_translate_43
  refine br_f (by decide) (br_f (by decide) (br_f (by decide) ⟨pk_in 0 32 (by omega), pk_in 0 32 (by omega), fk_faults h (br_t rfl (nm_r (e' := 1) (by decide) (fk_one h (nm_r (e' := 1) (by decide) ?_))))⟩))
  unfold wX_translate_43
  refine br_t rfl ?_
  unfold wX_translate_132
  exact br_t rfl (fk_154 H)
theorem fk_translate {post : St2 → Prop} (h : a1 0 = 13) (H : ∀ e : Nat → Int32, post (1, g2, g3, g4, g5, g6, 1, 0, a1, a2, a3, a4, a5, a6, (upd a7 0 1), (upd a8 0 1), (upd a9 0 10), (upd a10 0 0), (upd a11 0 0), (upd a12 0 0), e)) : wpX_translate post (1, g2, g3, g4, g5, g6, 0, g8, a1, a2, a3, a4, a5, a6, a7, a8, a9, a10, a11, a12, a13) 0 0 0 :=
  pk_loop (fun n i s => wX_translate_8 post 0 0 1 g2 g3 g4 g5 g6 0 0 n (nI i) a1 a2 a3 a4 a5 a6 a7 a8 a9 a10 a11 a12 s) (fun _ _ => True) 8 0 a13 (by omega) trivial
    (fun n s _ => pk_le 8 8 (fun _ => ⟨2, fk_43 h (H s)⟩) (fun z => absurd z (by omega)))
    (fun n i s hi _ hw => pk_le 8 i (fun z => absurd z (by omega)) (fun _ => ⟨pk_in i 8 hi, nm_e (nm_r (nI_1 i) (hw _ trivial))⟩))
theorem fk_block {post : Int32 → St2 → Prop} (h : a1 0 = 13) (h5 : a5 0 = -1) (H : ∀ b e : Nat → Int32, post 0 (1, 0, 0, g4, g5, 1, 1, 0, a1, a2, a3, a4, b, (upd a6 0 0), (upd a7 0 1), (upd a8 0 1), (upd a9 0 10), (upd a10 0 0), (upd a11 0 0), (upd a12 0 0), e)) : wpX_blockAt post (1, 0, 0, g4, g5, 0, 0, g8, a1, a2, a3, a4, a5, a6, a7, a8, a9, a10, a11, a12, a13) 0 0 := by
  unfold wpX_blockAt
  dsimp only
  refine nm_r (e' := 0) (by decide) ⟨pk_in 0 297 (by omega), br_t ?_ (br_f (by decide) (br_t (by decide) ?_))⟩
  · show a5 0 < 0
    rw [h5]
    decide
  unfold wX_blockAt_46
  exact nm_r (e' := 1) (by decide) ⟨pk_in 0 297 (by omega), nm_e ⟨pk_in 0 48 (by omega), nm_r (e' := upd a6 0 0) rfl (fk_translate h (fun e => H _ e))⟩⟩
theorem fk_exec {post : St2 → Prop} (h9 : a9 0 = 10) (h10 : a10 0 = 0) (h11 : a11 0 = 0) (H : post (g1, 0, 0, 1, g5, g6, 1, g8, a1, a2, a3, a4, a5, a6, a7, a8, a9, a10, a11, a12, a13)) : wpX_execute post (g1, g2, g3, g4, g5, g6, 1, g8, a1, a2, a3, a4, a5, a6, a7, a8, a9, a10, a11, a12, a13) 0 := by
  refine ⟨1, br_f (by decide) ⟨pk_in 0 640 (by omega), br_t ?_ ?_⟩⟩
  · show 7 ≤ a9 0
    rw [h9]
    decide
  unfold wX_execute_32
  refine ⟨pk_in 0 640 (by omega), nm_r (e' := 10) h9 ⟨pk_in 0 640 (by omega), nm_r (e' := 0) h11 ⟨pk_in 0 640 (by omega), nm_r (e' := 0) h10 (br_f (by decide) ?_)⟩⟩⟩
  unfold wX_execute_85
  refine br_f (by decide) ?_
  unfold wX_execute_111
  refine br_t rfl ?_
  unfold wX_execute_122
  exact br_f (by decide) H
theorem fk_run {post : Int32 → St2 → Prop} {x : Int32} (hx : ¬ x ≤ 0) (h : a1 0 = 13) (h5 : a5 0 = -1) (H : ∀ b1 b2 b3 b4 b5 b6 b7 b8 b9 b10 b11 b12 b13 : Nat → Int32, post 1 (1, 0, 0, 1, 1, 1, 1, 0, b1, b2, b3, b4, b5, b6, b7, b8, b9, b10, b11, b12, b13)) : wX_run_23 post 2 x 1 0 0 0 0 0 0 g8 a1 a2 a3 a4 a5 a6 a7 a8 a9 a10 a11 a12 a13 := by
  unfold wX_run_23
  refine br_f hx (br_t rfl (fk_block h h5 (fun b e => ⟨pk_in 0 48 (by omega), br_f ?_ ⟨pk_in 0 48 (by omega), nm_e ⟨pk_in 0 48 (by omega), nm_r (e' := 1) ?_ ⟨pk_in 0 48 (by omega), ?_⟩⟩⟩⟩)))
  · show ¬ x < 1
    rw [fk_le, fk_n0] at hx
    rw [fk_lt, fk_n1]
    omega
  · rfl
  refine fk_exec rfl rfl rfl ?_
  unfold wX_run_23
  exact br_c (fun _ => H _ _ _ _ _ _ _ _ _ _ _ _ _) (fun _ => br_f (by decide) (H _ _ _ _ _ _ _ _ _ _ _ _ _))
end
end
section
section
variable {g1 g2 g3 g4 g5 g6 g7 g8 : Int32} {a1 a2 a3 a4 a5 a6 a7 a8 a9 a10 a11 a12 a13 : Nat → Int32}
theorem fk_286 {post : Int32 → St0 → Prop} {mc ms : Nat} {z0 z1 : Int32} {kc ks : Nat} (hp : post 1 ()) (h : z1 = z0) : wL_lawOf_286 post mc ms z0 z1 kc ks := by
  unfold wL_lawOf_286
  exact br_t h hp
theorem fk_260 {post : Int32 → St0 → Prop} {mc ms : Nat} {x5 x8 : Int32} {kc ks : Nat} (hp : post 1 ()) (h : x8 = 0 ∨ x5 ≤ 0) : wL_lawOf_260 post mc ms x5 x8 0 kc ks g1 g2 g3 g4 0 g6 g7 g8 a1 a2 a3 a4 a5 a6 a7 a8 a9 a10 a11 a12 a13 := by
  unfold wL_lawOf_260 wL_lawOf_261 wpX_executed
  dsimp only
  refine br_t rfl (br_c (fun _ => ?_) (fun h8 => br_t (h.resolve_left h8) ?_))
  · unfold wL_lawOf_285
    exact fk_286 hp rfl
  · unfold wL_lawOf_285
    exact fk_286 hp rfl
theorem fk_261 {post : Int32 → St0 → Prop} {mc ms : Nat} {x5 x8 : Int32} {kc ks : Nat} (hp : post 1 ()) (h8 : ¬ x8 = 0) (h5 : ¬ x5 ≤ 0) : wL_lawOf_261 post mc ms x5 x8 1 1 kc ks g1 g2 g3 g4 1 g6 g7 g8 a1 a2 a3 a4 a5 a6 a7 a8 a9 a10 a11 a12 a13 := by
  unfold wL_lawOf_261 wpX_executed
  dsimp only
  exact br_t rfl (br_f h8 (br_f h5 (fk_286 hp rfl)))
theorem fk_243z {post : Int32 → St0 → Prop} {mc ms : Nat} {x5 x8 z0 : Int32} {kc ks : Nat} (hp : post 1 ()) (h : x8 = 0 ∨ x5 ≤ 0) (hz : z0 ≤ 0) : wL_lawOf_243 post mc ms x5 x8 z0 kc ks g1 g2 g3 0 0 g6 g7 g8 a1 a2 a3 a4 a5 a6 a7 a8 a9 a10 a11 a12 a13 := by
  unfold wL_lawOf_243 wpX_run
  dsimp only
  refine br_c (fun h0 => ?_) (fun h0 => ⟨1, br_t (by decide) ?_⟩)
  · have e : z0 = 0 := by
      rw [fk_le, fk_n0] at h0 hz
      rw [fk_eq, fk_n0]
      omega
    subst e
    exact br_t (by decide) ⟨1, br_t (by decide) (br_c (fun _ => fk_260 hp h) (fun h8 => br_t (h.resolve_left h8) (fk_260 hp h)))⟩
  · exact br_c (fun _ => fk_260 hp h) (fun h8 => br_t (h.resolve_left h8) (fk_260 hp h))
theorem fk_243p {post : Int32 → St0 → Prop} {mc ms : Nat} {x5 x8 : Int32} {kc ks : Nat} (hp : post 1 ()) (h8 : ¬ x8 = 0) (hx : ¬ x5 ≤ 0) (h : a1 0 = 13) (h5 : a5 0 = -1) : wL_lawOf_243 post mc ms x5 x8 x5 kc ks 1 0 0 0 0 0 0 g8 a1 a2 a3 a4 a5 a6 a7 a8 a9 a10 a11 a12 a13 := by
  unfold wL_lawOf_243 wpX_run
  dsimp only
  refine br_t ?_ (br_c (fun _ => ⟨2, fk_run hx h h5 ?_⟩) (fun _ => ⟨2, fk_run (by decide) h h5 ?_⟩))
  · rw [fk_le, fk_n0] at hx
    rw [fk_le, fk_n0]
    omega
  · intros
    exact br_f h8 (br_f hx (fk_261 hp h8 hx))
  · intros
    exact br_f h8 (br_f hx (fk_261 hp h8 hx))
theorem fk_203 {post : Int32 → St0 → Prop} {mc ms : Nat} {x3 x4 x5 x7 x8 z0 z1 : Int32} {kc ks : Nat} (hz : z1 = z0) (h7 : fk_fl (fk_good x3) x7) (hm : fk_good x3 → a3 x3.toNatClampNeg = x4) (K0 : x8 = 0 → wL_lawOf_243 post mc ms x5 x8 0 kc ks g1 g2 g3 g4 g5 g6 g7 g8 a1 a2 a3 a4 a5 a6 a7 a8 a9 a10 a11 a12 a13) (K1 : ¬ x8 = 0 → wL_lawOf_243 post mc ms x5 x8 x5 kc ks g1 g2 g3 g4 g5 g6 g7 g8 a1 a2 a3 a4 a5 a6 a7 a8 a9 a10 a11 a12 a13) : wL_lawOf_203 post mc ms x3 x4 x5 x7 x8 z0 z1 kc ks g1 g2 g3 g4 g5 g6 g7 g8 a1 a2 a3 a4 a5 a6 a7 a8 a9 a10 a11 a12 a13 := by
  unfold wL_lawOf_203
  refine br_t hz (fk_mem (fun hg => ?_) (fun hg => ?_))
  · refine br_f (by rw [h7.1 hg]; decide) ?_
    unfold wL_lawOf_225
    exact br_t (hm hg) (br_c K0 K1)
  · refine br_t (h7.2 hg) ?_
    unfold wL_lawOf_225
    exact br_t rfl (br_c K0 K1)
/-- behind a patch that is refused -/
theorem fk_pn {post : Int32 → St0 → Prop} {mc ms : Nat} {x3 x4 x5 x7 : Int32} {kc ks : Nat} (hp : post 1 ()) (h7 : fk_fl (fk_good x3) x7) (hm : fk_good x3 → a3 x3.toNatClampNeg = x4) : wL_lawOf_203 post mc ms x3 x4 x5 x7 0 (-1) (-1) kc ks g1 g2 g3 0 0 g6 g7 g8 a1 a2 a3 a4 a5 a6 a7 a8 a9 a10 a11 a12 a13 :=
  fk_203 rfl h7 hm (fun _ => fk_243z hp (Or.inl rfl) (by decide)) (fun h => absurd rfl h)
/-- behind the patch that lays HALT at 0 -/
theorem fk_pp {post : Int32 → St0 → Prop} {mc ms : Nat} {x3 x4 x5 x7 : Int32} {kc ks : Nat} (hp : post 1 ()) (h7 : fk_fl (fk_good x3) x7) (hm : fk_good x3 → a3 x3.toNatClampNeg = x4) (h1 : a1 0 = 13) (h5 : a5 0 = -1) : wL_lawOf_203 post mc ms x3 x4 x5 x7 1 1 1 kc ks 1 0 0 0 0 0 0 g8 a1 a2 a3 a4 a5 a6 a7 a8 a9 a10 a11 a12 a13 := by
  refine fk_203 rfl h7 hm (fun h => absurd h (by decide)) (fun h8 => ?_)
  by_cases hx : x5 ≤ 0
  · exact fk_243z hp (Or.inr hx) hx
  · exact fk_243p hp h8 hx h1 h5
/-- the law behind emit -/
theorem fk_163 {post : Int32 → St0 → Prop} {mc ms : Nat} {x2 x3 x4 x5 x7 x8 z0 z1 : Int32} {kc ks : Nat} (hp : post 1 ()) (hz : z1 = z0) (h7 : fk_fl (fk_good x3) x7) (h8 : (x8 = 0 ∧ (x2 < 0 ∨ g1 ≤ x2)) ∨ (x8 = 1 ∧ x2 = 0 ∧ g1 = 1)) : wL_lawOf_163 post mc ms x2 x3 x4 x5 x7 x8 z0 z1 kc ks g1 0 0 0 0 g6 g7 g8 a1 a2 a3 a4 a5 a6 a7 a8 a9 a10 a11 a12 a13 := by
  unfold wL_lawOf_163
  refine br_t hz (fk_poke (fun hg => br_t (h7.1 hg).symm ?_) (fun hg => br_t (h7.2 hg).symm ?_))
  · rcases h8 with ⟨rfl, hn⟩ | ⟨rfl, rfl, rfl⟩
    · exact fk_patchN hn (br_t rfl (fk_pn hp h7 (fun _ => pk_us)))
    · exact fk_patch1 (fun c d hd => br_f (by decide) (fk_pp hp h7 (fun _ => pk_us) rfl (hd 0 (by omega))))
  · rcases h8 with ⟨rfl, hn⟩ | ⟨rfl, rfl, rfl⟩
    · exact fk_patchN hn (br_t rfl (fk_pn hp h7 (fun h => absurd h hg)))
    · exact fk_patch1 (fun c d hd => br_f (by decide) (fk_pp hp h7 (fun h => absurd h hg) rfl (hd 0 (by omega))))
end
theorem fk_135 {post : Int32 → St0 → Prop} {mc ms : Nat} {x0 x1 x2 x3 x4 x5 x6 x7 z0 : Int32} (hp : post 1 ()) (hmc : mc = 14) (hms : ms = 3112) (h6 : fk_fl (fk_fit x0 x1) x6) (h7 : fk_fl (fk_good x3) x7) (h8 : fk_fl (¬ x6 = 0 ∧ x2 = 0) z0) : wL_lawOf_135 post mc ms x0 x1 x2 x3 x4 x5 x6 x7 z0 0 0 := by
  unfold wL_lawOf_135
  refine ⟨by omega, by omega, 13, 3091, by omega, by omega, fk_init (fun b _ => fk_emit (fun hf c d e => ?_) (fun hf => ?_))⟩
  · have e6 := h6.1 hf
    refine br_f (by rw [e6]; decide) (fk_163 hp rfl h7 ?_)
    by_cases h2 : x2 = 0
    · exact Or.inr ⟨h8.1 ⟨by rw [e6]; decide, h2⟩, h2, rfl⟩
    · refine Or.inl ⟨h8.2 (fun t => h2 t.2), ?_⟩
      rw [fk_eq, fk_n0] at h2
      rw [fk_lt, fk_le, fk_n0, fk_n1]
      omega
  · have e6 := h6.2 hf
    refine br_t e6 (fk_163 hp rfl h7 (Or.inl ⟨h8.2 (fun t => t.1 e6), ?_⟩))
    rw [fk_lt, fk_le, fk_n0]
    omega
theorem fk_119 {post : Int32 → St0 → Prop} {mc ms : Nat} {x0 x1 x2 x3 x4 x5 x6 : Int32} {kc ks : Nat} {x7 : Int32} (H : ∀ z0, fk_fl (¬ x6 = 0 ∧ x2 = 0) z0 → wL_lawOf_135 post mc ms x0 x1 x2 x3 x4 x5 x6 x7 z0 kc ks) : wL_lawOf_119 post mc ms x0 x1 x2 x3 x4 x5 x6 x7 kc ks := by
  unfold wL_lawOf_119 wL_lawOf_134
  exact br_c (fun h => H 0 ⟨fun t => absurd h t.1, fun _ => rfl⟩) (fun h => br_c (fun g => H 1 ⟨fun _ => rfl, fun t => absurd ⟨h, g⟩ t⟩) (fun g => H 0 ⟨fun t => absurd t.2 g, fun _ => rfl⟩))
theorem fk_104 {post : Int32 → St0 → Prop} {mc ms : Nat} {x0 x1 x2 x3 x4 x5 x6 : Int32} {kc ks : Nat} (H : ∀ x7 z0, fk_fl (fk_good x3) x7 → fk_fl (¬ x6 = 0 ∧ x2 = 0) z0 → wL_lawOf_135 post mc ms x0 x1 x2 x3 x4 x5 x6 x7 z0 kc ks) : wL_lawOf_104 post mc ms x0 x1 x2 x3 x4 x5 x6 kc ks := by
  unfold wL_lawOf_104 wL_lawOf_118
  refine br_c (fun h => fk_119 (fun z0 hz => H 0 z0 ⟨fun t => ?_, fun _ => rfl⟩ hz)) (fun h => br_c (fun g => fk_119 (fun z0 hz => H 0 z0 ⟨fun t => ?_, fun _ => rfl⟩ hz)) (fun g => fk_119 (fun z0 hz => H 1 z0 ⟨fun _ => rfl, fun t => ?_⟩ hz)))
  · rw [fk_lt, fk_n0] at h
    unfold fk_good at t
    omega
  · rw [fk_lt, fk_n7] at g
    unfold fk_good at t
    omega
  · rw [fk_lt, fk_n0] at h
    rw [fk_lt, fk_n7] at g
    unfold fk_good at t
    omega
theorem fk_75 {post : Int32 → St0 → Prop} {mc ms : Nat} {x0 x1 x2 x3 x4 x5 x6 : Int32} {kc ks : Nat} (H : ∀ y, ((10 ≤ x0.toInt ∧ x0.toInt ≤ 12) ∧ fk_fl (0 ≤ x1.toInt ∧ x1.toInt ≤ 31) y) ∨ (¬ (10 ≤ x0.toInt ∧ x0.toInt ≤ 12) ∧ y = x6) → wL_lawOf_104 post mc ms x0 x1 x2 x3 x4 x5 y kc ks) : wL_lawOf_75 post mc ms x0 x1 x2 x3 x4 x5 x6 kc ks := by
  unfold wL_lawOf_75 wL_lawOf_102 wL_lawOf_101 wL_lawOf_102
  simp only [fk_lt, fk_le, fk_eq, fk_n0, fk_n1, fk_n7, fk_n8, fk_n9, fk_n10, fk_n12, fk_n13, fk_n31]
  generalize x0.toInt = a at *
  generalize x1.toInt = b at *
  exact br_c (fun h => H x6 (Or.inr ⟨by omega, rfl⟩)) (fun h => br_c (fun h2 => H x6 (Or.inr ⟨by omega, rfl⟩)) (fun h2 => br_c (fun h3 => H 0 (Or.inl ⟨by omega, (fun t => absurd t (by omega)), fun _ => rfl⟩)) (fun h3 => br_c (fun h4 => H 0 (Or.inl ⟨by omega, (fun t => absurd t (by omega)), fun _ => rfl⟩)) (fun h4 => H 1 (Or.inl ⟨by omega, (fun _ => rfl), fun t => absurd t (by omega)⟩)))))
theorem fk_57 {post : Int32 → St0 → Prop} {mc ms : Nat} {x0 x1 x2 x3 x4 x5 : Int32} {kc ks : Nat} (H : ∀ y, fk_fl (1 ≤ x1.toInt ∧ x1.toInt ≤ 7) y → wL_lawOf_75 post mc ms x0 x1 x2 x3 x4 x5 y kc ks) : wL_lawOf_57 post mc ms x0 x1 x2 x3 x4 x5 kc ks := by
  unfold wL_lawOf_57 wL_lawOf_73 wL_lawOf_72 wL_lawOf_73
  simp only [fk_lt, fk_le, fk_eq, fk_n0, fk_n1, fk_n7, fk_n8, fk_n9, fk_n10, fk_n12, fk_n13, fk_n31]
  generalize x1.toInt = b at *
  exact br_c (fun h => H 0 ⟨(fun t => absurd t (by omega)), fun _ => rfl⟩) (fun h => br_c (fun h2 => H 0 ⟨(fun t => absurd t (by omega)), fun _ => rfl⟩) (fun h2 => H 1 ⟨(fun _ => rfl), fun t => absurd t (by omega)⟩))
theorem fk_45 {post : Int32 → St0 → Prop} {mc ms : Nat} {x0 x1 x2 x3 x4 x5 x6 : Int32} {kc ks : Nat} (H : ∀ y, ((x0.toInt = 8 ∨ x0.toInt = 9) ∧ fk_fl (1 ≤ x1.toInt ∧ x1.toInt ≤ 7) y) ∨ (¬ (x0.toInt = 8 ∨ x0.toInt = 9) ∧ y = x6) → wL_lawOf_75 post mc ms x0 x1 x2 x3 x4 x5 y kc ks) : wL_lawOf_45 post mc ms x0 x1 x2 x3 x4 x5 x6 kc ks := by
  unfold wL_lawOf_45
  rw [fk_eq, fk_eq, fk_n8, fk_n9]
  exact br_c (fun h => fk_57 (fun y hy => H y (Or.inl ⟨Or.inl h, hy⟩))) (fun h => br_c (fun h2 => fk_57 (fun y hy => H y (Or.inl ⟨Or.inr h2, hy⟩))) (fun h2 => H x6 (Or.inr ⟨fun t => t.elim h h2, rfl⟩)))
theorem fk_15 {post : Int32 → St0 → Prop} {mc ms : Nat} {x0 x1 x2 x3 x4 x5 x6 : Int32} {kc ks : Nat} (H : ∀ y, ((1 ≤ x0.toInt ∧ x0.toInt ≤ 7) ∧ fk_fl (0 ≤ x1.toInt ∧ x1.toInt ≤ 7) y) ∨ (¬ (1 ≤ x0.toInt ∧ x0.toInt ≤ 7) ∧ y = x6) → wL_lawOf_45 post mc ms x0 x1 x2 x3 x4 x5 y kc ks) : wL_lawOf_15 post mc ms x0 x1 x2 x3 x4 x5 x6 kc ks := by
  unfold wL_lawOf_15 wL_lawOf_43 wL_lawOf_42 wL_lawOf_43
  simp only [fk_lt, fk_le, fk_eq, fk_n0, fk_n1, fk_n7, fk_n8, fk_n9, fk_n10, fk_n12, fk_n13, fk_n31]
  generalize x0.toInt = a at *
  generalize x1.toInt = b at *
  exact br_c (fun h => H x6 (Or.inr ⟨by omega, rfl⟩)) (fun h => br_c (fun h2 => H x6 (Or.inr ⟨by omega, rfl⟩)) (fun h2 => br_c (fun h3 => H 0 (Or.inl ⟨by omega, (fun t => absurd t (by omega)), fun _ => rfl⟩)) (fun h3 => br_c (fun h4 => H 0 (Or.inl ⟨by omega, (fun t => absurd t (by omega)), fun _ => rfl⟩)) (fun h4 => H 1 (Or.inl ⟨by omega, (fun _ => rfl), fun t => absurd t (by omega)⟩)))))
/-- the law's own reckoning of what fits is the component's -/
theorem fk_fits {a b : Int32} {y0 y1 y2 y3 : Int32} (h0 : fk_fl (0 ≤ a.toInt ∧ a.toInt ≤ 13) y0) (h1 : ((1 ≤ a.toInt ∧ a.toInt ≤ 7) ∧ fk_fl (0 ≤ b.toInt ∧ b.toInt ≤ 7) y1) ∨ (¬ (1 ≤ a.toInt ∧ a.toInt ≤ 7) ∧ y1 = y0)) (h2 : ((a.toInt = 8 ∨ a.toInt = 9) ∧ fk_fl (1 ≤ b.toInt ∧ b.toInt ≤ 7) y2) ∨ (¬ (a.toInt = 8 ∨ a.toInt = 9) ∧ y2 = y1)) (h3 : ((10 ≤ a.toInt ∧ a.toInt ≤ 12) ∧ fk_fl (0 ≤ b.toInt ∧ b.toInt ≤ 31) y3) ∨ (¬ (10 ≤ a.toInt ∧ a.toInt ≤ 12) ∧ y3 = y2)) : fk_fl (fk_fit a b) y3 := by
  unfold fk_fit
  generalize a.toInt = x at *
  generalize b.toInt = y at *
  rcases h3 with ⟨c3, h3⟩ | ⟨c3, rfl⟩
  · exact ⟨fun t => h3.1 (by omega), fun t => h3.2 (by omega)⟩
  · rcases h2 with ⟨c2, h2⟩ | ⟨c2, rfl⟩
    · exact ⟨fun t => h2.1 (by omega), fun t => h2.2 (by omega)⟩
    · rcases h1 with ⟨c1, h1⟩ | ⟨c1, rfl⟩
      · exact ⟨fun t => h1.1 (by omega), fun t => h1.2 (by omega)⟩
      · exact ⟨fun t => h0.1 (by omega), fun t => h0.2 (by omega)⟩
theorem fk_all {post : Int32 → St0 → Prop} {x0 x1 x2 x3 x4 x5 : Int32} (hp : post 1 ()) : ∀ y0, fk_fl (0 ≤ x0.toInt ∧ x0.toInt ≤ 13) y0 → wL_lawOf_15 post 14 3112 x0 x1 x2 x3 x4 x5 y0 0 0 :=
  fun y0 h0 => fk_15 (fun y1 h1 => fk_45 (fun y2 h2 => fk_75 (fun y3 h3 => fk_104 (fun x7 z0 h7 h8 => fk_135 hp rfl rfl (fk_fits h0 h1 h2 h3) h7 h8))))
theorem fk_lawOf {post : Int32 → St0 → Prop} {x0 x1 x2 x3 x4 x5 : Int32} (hp : post 1 ()) : wpL_lawOf post 14 3112 () x0 x1 x2 x3 x4 x5 := by
  unfold wpL_lawOf wL_lawOf_14
  refine br_c (fun h => fk_all hp 0 ⟨fun t => ?_, fun _ => rfl⟩) (fun h => br_c (fun g => fk_all hp 0 ⟨fun t => ?_, fun _ => rfl⟩) (fun g => fk_all hp 1 ⟨fun _ => rfl, fun t => ?_⟩))
  · rw [fk_lt, fk_n0] at h
    omega
  · rw [fk_lt, fk_n13] at g
    omega
  · rw [fk_lt, fk_n0] at h
    rw [fk_lt, fk_n13] at g
    omega
theorem fk_cell {post : Int32 → Prop} {L k : Nat} {xs : Nat → Int32} {x : Int32} (hx : x = nI k) (hk : k < 2 ^ 31) (hL : L ≤ 6) (H : ∀ r, post r) : wpL_cellAt post L xs () x := by
  subst hx
  unfold wpL_cellAt
  exact pk_le L k (fun _ => H _) (fun z => ⟨vp_in_nI z (by omega), H _⟩)
end
section
theorem i_vc (xs : Nat → Int32) (L : Nat) (hL : L ≤ 6) : wpL_law (fun r => r = 1) L xs := by
  unfold wpL_law
  refine fk_cell (k := 0) rfl (by omega) hL (fun r1 => fk_cell (k := 1) rfl (by omega) hL (fun r2 => fk_cell (k := 2) rfl (by omega) hL (fun r3 => fk_cell (k := 3) rfl (by omega) hL (fun r4 => fk_cell (k := 4) rfl (by omega) hL (fun r5 => fk_cell (k := 5) rfl (by omega) hL (fun r6 => ?_))))))
  exact ⟨14, 3112, by omega, by omega, fk_lawOf rfl⟩
end
