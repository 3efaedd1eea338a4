section
/-- cellAt answers something -/
theorem ca_cell {P : Int32 → Prop} {L : Nat} {xs : Nat → Int32} {u : St0} (i : Nat) (hL : L ≤ 6) (hi : i < 6) (H : ∀ v, P v) : wpL_cellAt P L xs u (nI i) :=
  pk_le L i (fun _ => H 0) (fun z => ⟨pk_in i L z, H _⟩)
theorem ca_fill {f s : Nat → Int32} {i k : Nat} {x : Int32} (hk : k = i) (h : ∀ j, j < i → s j = f j) (hx : x = f i) : ∀ j, j < i + 1 → upd s k x j = f j := by
  intro j hj
  rw [hk]
  by_cases e : j = i
  · rw [e, pk_us, hx]
  · rw [pk_un e]
    exact h j (by omega)
/-- the constructor: nobody has a parent -/
theorem ca_init {post : St2 → Prop} {mc ms : Nat} (hc : 19 ≤ mc) (hs : 881 ≤ ms)
    (H : ∀ b1 b2 : Nat → Int32, (∀ j, j < 8 → b1 j = -1) → post (0, 0, 0, 0, 0, b1, b2, (fun _ => 0), (fun _ => 0), (fun _ => 0), (fun _ => 0), (fun _ => 0), (fun _ => 0), (fun _ => 0), (fun _ => 0), (fun _ => 0), (fun _ => 0), (fun _ => 0), (fun _ => 0), (fun _ => 0), (fun _ => 0), (fun _ => 0), (fun _ => 0), (fun _ => 0))) : wpX_init post mc ms (0, 0, 0, 0, 0) := by
  unfold wpX_init
  refine ⟨by omega, by omega, by omega, by omega, by omega, by omega, by omega, by omega, by omega, by omega, by omega, by omega, by omega, by omega, by omega, by omega, by omega, by omega, by omega, by omega, by omega, by omega, by omega, by omega, by omega, by omega, by omega, by omega, by omega, by omega, by omega, by omega, by omega, by omega, by omega, by omega, by omega, by omega, ?_⟩
  exact pk_loop (σ := (Nat → Int32) × (Nat → Int32)) (fun n i s => wX_init_158 post mc ms 19 881 0 0 0 0 0 n (nI i) s.1 s.2 (fun _ => 0) (fun _ => 0) (fun _ => 0) (fun _ => 0) (fun _ => 0) (fun _ => 0) (fun _ => 0) (fun _ => 0) (fun _ => 0) (fun _ => 0) (fun _ => 0) (fun _ => 0) (fun _ => 0) (fun _ => 0) (fun _ => 0) (fun _ => 0) (fun _ => 0)) (fun i s => ∀ j, j < i → s.1 j = -1) 8 0 (fun _ => 0, fun _ => 0) (by omega) (fun j hj => absurd hj (by omega))
    (fun n s h => pk_le 8 8 (fun _ => H s.1 s.2 h) (fun z => absurd z (by omega)))
    (fun n i s hi h hw => pk_le 8 i (fun z => absurd z (by omega)) (fun _ => ⟨pk_in i 8 hi, nm_e ⟨pk_in i 8 hi, nm_e (nm_r (nI_1 i) (hw (_, _) (ca_fill (f := fun _ => -1) (nI_clamp (by omega)) h rfl)))⟩⟩))
/-- the forebears of j as bits, when c alone has a parent, c - 1 -/
def ca_K (c j : Nat) : Int32 := ((1 : Int32) <<< (nI j &&& 31)) ||| (if j = c ∧ 0 < c then (((1 : Int32) <<< (nI (c - 1) &&& 31)) ||| 0) else 0)
theorem ca_K_o {c j : Nat} (h : ¬ (j = c ∧ 0 < c)) : ca_K c j = ((1 : Int32) <<< (nI j &&& 31)) ||| 0 := by
  unfold ca_K
  rw [if_neg h]
theorem ca_K_s {m : Nat} : ca_K (m + 1) (m + 1) = ((1 : Int32) <<< (nI (m + 1) &&& 31)) ||| (((1 : Int32) <<< (nI m &&& 31)) ||| 0) := by
  unfold ca_K
  rw [if_pos ⟨rfl, by omega⟩, Nat.add_sub_cancel]
theorem ca_K_bit : ∀ c, c < 8 → ∀ a, a < 8 → ((((ca_K c c) >>> (nI a &&& 31)) &&& 1) = 1 ↔ (nI a = nI c ∨ nI a = nI c - 1)) := by decide +kernel
theorem ca_der49 {post : Int32 → St2 → Prop} {x3 f0 f1 f2 f3 f4 : Int32} {a1 a2 a3 a4 a5 a6 a7 a8 a9 a10 a11 a12 a13 a14 a15 a16 a17 : Nat → Int32} {a18 : Nat → Int64} {a19 : Nat → Int32} {c : Nat} (hc : c < 8) (h1 : a1 c = nI c - 1) (h2 : ∀ j, j < 8 → j ≠ c → a1 j = -1)
    (H : ∀ b2 : Nat → Int32, b2 c = ca_K c c → post x3 (f0, f1, f2, f3, f4, a1, b2, a3, a4, a5, a6, a7, a8, a9, a10, a11, a12, a13, a14, a15, a16, a17, a18, a19)) : ∃ n, wX_derive_49 post x3 f0 f1 f2 f3 f4 n 0 a1 a2 a3 a4 a5 a6 a7 a8 a9 a10 a11 a12 a13 a14 a15 a16 a17 a18 a19 := by
  refine pk_loop (fun n i s => wX_derive_49 post x3 f0 f1 f2 f3 f4 n (nI i) a1 s a3 a4 a5 a6 a7 a8 a9 a10 a11 a12 a13 a14 a15 a16 a17 a18 a19) (fun i s => ∀ j, j < i → s j = ca_K c j) 8 0 a2 (by omega) (fun j hj => absurd hj (by omega))
    (fun n s h => pk_le 8 8 (fun _ => H s (h c hc)) (fun z => absurd z (by omega))) ?_
  intro n i s hi h hw
  have ci : (nI i).toNatClampNeg = i := nI_clamp (by omega)
  have neg : a1 i = -1 → ¬ (i = c ∧ 0 < c) → wX_derive_49 post x3 f0 f1 f2 f3 f4 (n + 1) (nI i) a1 s a3 a4 a5 a6 a7 a8 a9 a10 a11 a12 a13 a14 a15 a16 a17 a18 a19 := by
    intro e ho
    refine pk_le 8 i (fun z => absurd z (by omega)) (fun _ => ⟨pk_in i 8 hi, ?_⟩)
    refine br_f (by rw [ci, e]; decide) ⟨pk_in i 8 hi, nm_e (nm_r (nI_1 i) (hw _ (ca_fill ci h ?_)))⟩
    rw [ca_K_o ho]
  by_cases e : i = c
  · cases i with
    | zero => exact neg (by rw [e, h1, ← e]; decide) (by omega)
    | succ m =>
      have e1 : a1 (m + 1) = nI m := by rw [e, h1, ← e, nI_pred]
      have cm : (nI m).toNatClampNeg = m := nI_clamp (by omega)
      refine pk_le 8 (m + 1) (fun z => absurd z (by omega)) (fun _ => ⟨pk_in (m + 1) 8 hi, ?_⟩)
      refine br_t (by rw [ci, e1]; exact nI_pos' (by omega)) ⟨pk_in (m + 1) 8 hi, by rw [ci, e1]; exact pk_in m 8 (by omega), pk_in (m + 1) 8 hi, nm_e (nm_r (nI_1 (m + 1)) (hw _ (ca_fill ci h ?_)))⟩
      rw [ci, e1, cm, h m (by omega), ca_K_o (by omega), ← e, ca_K_s]
  · exact neg (h2 i hi e) (fun z => e z.1)
theorem ca_derive {post : Int32 → St2 → Prop} {a1 a2 a3 a4 a5 a6 a7 a8 a9 a10 a11 a12 a13 a14 a15 a16 a17 : Nat → Int32} {a18 : Nat → Int64} {a19 : Nat → Int32} {c : Nat} (hc : c < 8) (h1 : ∀ j, j < 8 → a1 j = -1)
    (H : ∀ (r : Int32) (b1 b2 : Nat → Int32), b2 c = ca_K c c → post r (0, 0, 0, 0, 0, b1, b2, a3, a4, a5, a6, a7, a8, a9, a10, a11, a12, a13, a14, a15, a16, a17, a18, a19)) : wpX_derive post (0, 0, 0, 0, 0, a1, a2, a3, a4, a5, a6, a7, a8, a9, a10, a11, a12, a13, a14, a15, a16, a17, a18, a19) (nI c) (nI c - 1) := by
  have cc : (nI c).toNatClampNeg = c := nI_clamp (by omega)
  have g1 : ¬ nI c - 1 < -1 := by
    have : ∀ c, c < 8 → ¬ nI c - 1 < -1 := by decide +kernel
    exact this c hc
  have g2 : nI c - 1 < nI c := by
    have : ∀ c, c < 8 → nI c - 1 < nI c := by decide +kernel
    exact this c hc
  unfold wpX_derive
  refine pk_lt c 0 (fun z => absurd z (by omega)) (fun _ => pk_le 8 c (fun z => absurd z (by omega)) (fun _ => br_f g1 (br_t g2 (br_t (by decide) ⟨pk_in c 8 hc, nm_e ⟨pk_in c 8 hc, nm_e ?_⟩⟩))))
  rw [cc]
  exact ca_der49 hc pk_us (fun j hj hn => by rw [pk_un hn]; exact h1 j hj) (fun b2 hb => H _ _ b2 hb)
theorem ca_define {post : Int32 → St2 → Prop} {a1 a2 a3 a4 a5 a6 a7 a8 a9 a10 a11 a12 a13 a14 a15 a16 a17 : Nat → Int32} {a18 : Nat → Int64} {a19 : Nat → Int32} {c n g : Nat} (hc : c < 8) (hn : n ≤ 9) (hg : g ≤ 15)
    (H : ∀ r : Int32, post r (0, 0, 0, 0, 0, a1, a2, upd a3 9 (nI c), upd a4 9 (nI n), upd a5 9 (nI g), a6, a7, a8, a9, a10, a11, a12, a13, a14, a15, a16, a17, a18, a19)) : wpX_define post (0, 0, 0, 0, 0, a1, a2, a3, a4, a5, a6, a7, a8, a9, a10, a11, a12, a13, a14, a15, a16, a17, a18, a19) 9 (nI c) (nI n) (nI g) := by
  unfold wpX_define
  refine br_f (by decide) (br_f (by decide) (br_f (by decide) ?_))
  refine pk_lt c 0 (fun z => absurd z (by omega)) (fun _ => pk_le 8 c (fun z => absurd z (by omega)) (fun _ => ?_))
  refine pk_lt n 0 (fun z => absurd z (by omega)) (fun _ => pk_lt 9 n (fun z => absurd z (by omega)) (fun _ => ?_))
  refine pk_lt g 0 (fun z => absurd z (by omega)) (fun _ => pk_le g 15 (fun _ => ?_) (fun z => absurd z (by omega)))
  exact br_t (by decide) ⟨pk_in 9 16 (by omega), nm_e ⟨pk_in 9 16 (by omega), nm_e ⟨pk_in 9 16 (by omega), nm_e (H 1)⟩⟩⟩
end
section
/-- fits answers r -/
def ca_FT (kk aa r : Int32) : Prop := ∀ P : Int32 → Prop, P r → wpX_fits P () kk aa
theorem ca_tok_bad {post : Int32 → St2 → Prop} {a1 a2 a3 a4 a5 a6 a7 a8 a9 a10 a11 a12 a13 a14 a15 a16 a17 : Nat → Int32} {a18 : Nat → Int64} {a19 : Nat → Int32} {kk aa : Int32} (h : kk < 0 ∨ 13 < kk ∨ ca_FT kk aa 0)
    (H : post (-1) (0, 0, 0, 0, 0, a1, a2, a3, a4, a5, a6, a7, a8, a9, a10, a11, a12, a13, a14, a15, a16, a17, a18, a19)) : wpX_token post (0, 0, 0, 0, 0, a1, a2, a3, a4, a5, a6, a7, a8, a9, a10, a11, a12, a13, a14, a15, a16, a17, a18, a19) kk aa := by
  unfold wpX_token
  refine br_c (fun _ => H) (fun n1 => br_c (fun _ => H) (fun n2 => ?_))
  rcases h with h | h | h
  · exact absurd h n1
  · exact absurd h n2
  · exact h _ (br_t rfl H)
theorem ca_tok_3 {post : Int32 → St2 → Prop} {a1 a2 a3 a4 a5 a6 a7 a8 a9 a10 a11 a12 a13 a14 a15 a16 a17 : Nat → Int32} {a18 : Nat → Int64} {a19 : Nat → Int32} {kk aa : Int32} (h0 : ¬ kk < 0) (h1 : ¬ 13 < kk) (h2 : 5 < kk) (hf : ca_FT kk aa 1)
    (H : post (-3) (0, 0, 0, 0, 0, a1, a2, a3, a4, a5, a6, a7, a8, a9, a10, a11, a12, a13, a14, a15, a16, a17, a18, a19)) : wpX_token post (0, 0, 0, 0, 0, a1, a2, a3, a4, a5, a6, a7, a8, a9, a10, a11, a12, a13, a14, a15, a16, a17, a18, a19) kk aa := by
  unfold wpX_token
  refine br_f h0 (br_f h1 (hf _ (br_f (by decide) (br_t (by decide) ?_))))
  have k2 : ((2 : Int32) ≤ 0 → False) := by decide
  have k1 : ((1 : Int32) ≤ 0 → False) := by decide
  exact br_t h2 (br_c (fun _ => br_f k2 H) (fun _ => br_c (fun _ => br_f k2 H) (fun _ => br_c (fun _ => br_f k2 H) (fun _ => br_f k1 H))))
theorem ca_tok_1 {post : Int32 → St2 → Prop} {a1 a2 a3 a4 a5 a6 a7 a8 a9 a10 a11 a12 a13 a14 a15 a16 a17 : Nat → Int32} {a18 : Nat → Int64} {a19 : Nat → Int32} {kk aa : Int32} (h0 : ¬ kk < 0) (h1 : ¬ 13 < kk) (h2 : ¬ 5 < kk) (hf : ca_FT kk aa 1)
    (H : ∀ b6 b7 b8 : Nat → Int32, b6 0 = kk → b7 0 = aa → post 1 (1, 1, 0, 0, 0, a1, a2, a3, a4, a5, b6, b7, b8, a9, a10, a11, a12, a13, a14, a15, a16, a17, a18, a19)) : wpX_token post (0, 0, 0, 0, 0, a1, a2, a3, a4, a5, a6, a7, a8, a9, a10, a11, a12, a13, a14, a15, a16, a17, a18, a19) kk aa := by
  unfold wpX_token
  refine br_f h0 (br_f h1 (hf _ (br_f (by decide) (br_t (by decide) (br_f h2 (br_t (by decide) (br_t rfl (br_t (by decide) ?_))))))))
  unfold wX_token_64
  refine nm_e ⟨1, br_t (by decide) ⟨pk_in 0 16 (by omega), nm_e ⟨pk_in 0 16 (by omega), nm_e ⟨pk_in 0 16 (by omega), nm_e (nm_r (e' := 1) (by decide) (nm_r (e' := 1) (by decide) ?_))⟩⟩⟩⟩
  exact H _ _ _ pk_us pk_us
/-- fits: the plain cases -/
theorem ca_87 {aa : Int32} : 8 ≤ aa ↔ 7 < aa := by
  rw [Int32.le_iff_toInt_le, Int32.lt_iff_toInt_lt]
  have h8 : (8 : Int32).toInt = 8 := by decide
  have h7 : (7 : Int32).toInt = 7 := by decide
  rw [h8, h7]
  omega
theorem ca_72_r {P : Int32 → Prop} {aa : Int32} (h0 : ¬ aa < 0) (h1 : ¬ 7 < aa) (h : P 1) : wX_fits_72 P aa := br_f h0 (br_f (fun z => h1 (ca_87.mp z)) h)
theorem ca_72_n {P : Int32 → Prop} {aa : Int32} (h : aa < 0 ∨ 7 < aa) (H : P 0) : wX_fits_72 P aa :=
  br_c (fun _ => H) (fun n => br_c (fun _ => H) (fun m => absurd h (fun z => z.elim n (fun q => m (ca_87.mpr q)))))
theorem ca_ft0_r {aa : Int32} (h0 : ¬ aa < 0) (h1 : ¬ 9 < aa) : ca_FT 0 aa 1 := fun P h => br_f (by decide) (br_f (by decide) (br_t rfl (br_f h0 (br_f h1 h))))
theorem ca_ft0_n {aa : Int32} (h : aa < 0 ∨ 9 < aa) : ca_FT 0 aa 0 := fun P H => br_f (by decide) (br_f (by decide) (br_t rfl (br_c (fun _ => H) (fun n => br_c (fun _ => H) (fun m => absurd h (fun z => z.elim n m))))))
theorem ca_ft1_r {aa : Int32} (h0 : ¬ aa < 0) (h1 : ¬ 7 < aa) : ca_FT 1 aa 1 := fun P h => br_f (by decide) (br_f (by decide) (br_f (by decide) (br_t rfl (ca_72_r h0 h1 h))))
theorem ca_ft1_n {aa : Int32} (h : aa < 0 ∨ 7 < aa) : ca_FT 1 aa 0 := fun P H => br_f (by decide) (br_f (by decide) (br_f (by decide) (br_t rfl (ca_72_n h H))))
theorem ca_ft2_r {aa : Int32} (h0 : ¬ aa < 0) (h1 : ¬ 7 < aa) : ca_FT 2 aa 1 := fun P h => br_f (by decide) (br_f (by decide) (br_f (by decide) (br_f (by decide) (br_t rfl (ca_72_r h0 h1 h)))))
theorem ca_ft2_n {aa : Int32} (h : aa < 0 ∨ 7 < aa) : ca_FT 2 aa 0 := fun P H => br_f (by decide) (br_f (by decide) (br_f (by decide) (br_f (by decide) (br_t rfl (ca_72_n h H)))))
theorem ca_ft3_r {aa : Int32} (h0 : ¬ aa < 0) (h1 : ¬ 3 < aa) : ca_FT 3 aa 1 := fun P h => br_f (by decide) (br_f (by decide) (br_f (by decide) (br_f (by decide) (br_f (by decide) (br_t rfl (br_f h0 (br_f h1 h)))))))
theorem ca_ft3_n {aa : Int32} (h : aa < 0 ∨ 3 < aa) : ca_FT 3 aa 0 := fun P H => br_f (by decide) (br_f (by decide) (br_f (by decide) (br_f (by decide) (br_f (by decide) (br_t rfl (br_c (fun _ => H) (fun n => br_c (fun _ => H) (fun m => absurd h (fun z => z.elim n m)))))))))
theorem ca_ft4_r {aa : Int32} (h0 : ¬ aa < 0) (h1 : ¬ 7 < aa) : ca_FT 4 aa 1 := fun P h => br_f (by decide) (br_f (by decide) (br_f (by decide) (br_f (by decide) (br_f (by decide) (br_f (by decide) (br_t rfl (ca_72_r h0 h1 h)))))))
theorem ca_ft4_n {aa : Int32} (h : aa < 0 ∨ 7 < aa) : ca_FT 4 aa 0 := fun P H => br_f (by decide) (br_f (by decide) (br_f (by decide) (br_f (by decide) (br_f (by decide) (br_f (by decide) (br_t rfl (ca_72_n h H)))))))
theorem ca_ft5_r {aa : Int32} (h0 : ¬ aa < 0) (h1 : ¬ 20 < aa) : ca_FT 5 aa 1 := fun P h => br_f (by decide) (br_f (by decide) (br_f (by decide) (br_f (by decide) (br_f (by decide) (br_f (by decide) (br_f (by decide) (br_t rfl (br_f h0 (br_f h1 h)))))))))
theorem ca_ft5_n {aa : Int32} (h : aa < 0 ∨ 20 < aa) : ca_FT 5 aa 0 := fun P H => br_f (by decide) (br_f (by decide) (br_f (by decide) (br_f (by decide) (br_f (by decide) (br_f (by decide) (br_f (by decide) (br_t rfl (br_c (fun _ => H) (fun n => br_c (fun _ => H) (fun m => absurd h (fun z => z.elim n m)))))))))))
theorem ca_ft9_r {aa : Int32} (h0 : ¬ aa < 1) (h1 : ¬ 5 < aa) : ca_FT 9 aa 1 := fun P h => br_f (by decide) (br_f (by decide) (br_f (by decide) (br_f (by decide) (br_f (by decide) (br_f (by decide) (br_f (by decide) (br_f (by decide) (br_f (by decide) (br_f (by decide) (br_f (by decide) (br_t rfl (br_f h0 (br_f h1 h)))))))))))))
theorem ca_ft9_n {aa : Int32} (h : aa < 1 ∨ 5 < aa) : ca_FT 9 aa 0 := fun P H => br_f (by decide) (br_f (by decide) (br_f (by decide) (br_f (by decide) (br_f (by decide) (br_f (by decide) (br_f (by decide) (br_f (by decide) (br_f (by decide) (br_f (by decide) (br_f (by decide) (br_t rfl (br_c (fun _ => H) (fun n => br_c (fun _ => H) (fun m => absurd h (fun z => z.elim n m)))))))))))))))
/-- the kinds that take any argument -/
theorem ca_ftx {kk aa : Int32} (h0 : ¬ kk = 0) (h1 : ¬ kk = 1) (h2 : ¬ kk = 2) (h3 : ¬ kk = 3) (h4 : ¬ kk = 4) (h5 : ¬ kk = 5) (h9 : ¬ kk = 9) : ca_FT kk aa 1 := fun P h =>
  br_c (fun _ => h) (fun _ => br_c (fun _ => h) (fun _ => br_f h0 (br_f h1 (br_f h2 (br_f h3 (br_f h4 (br_f h5 (br_c (fun _ => h) (fun _ => br_c (fun _ => h) (fun _ => br_c (fun _ => h) (fun _ => br_f h9 trivial)))))))))))
/-- advise: refused -/
theorem ca_01 {x : Int32} (h0 : ¬ x = 0) (h1 : ¬ x = 1) : x < 0 ∨ ¬ x ≤ 1 := by
  rw [Int32.le_iff_toInt_le, Int32.lt_iff_toInt_lt]
  rw [← Int32.toInt_inj] at h0 h1
  have e0 : (0 : Int32).toInt = 0 := by decide
  have e1 : (1 : Int32).toInt = 1 := by decide
  rw [e0] at h0
  rw [e1] at h1
  rw [e0, e1]
  omega
theorem ca_adv_t {post : Int32 → St2 → Prop} {f0 f1 f2 f3 f4 : Int32} {a1 a2 a3 a4 a5 a6 a7 a8 a9 a10 a11 a12 a13 a14 a15 a16 a17 : Nat → Int32} {a18 : Nat → Int64} {a19 : Nat → Int32} {x2 : Int32} (h0 : ¬ x2 = 0) (h1 : ¬ x2 = 1)
    (H : post (-1) (f0, f1, f2, f3, f4, a1, a2, a3, a4, a5, a6, a7, a8, a9, a10, a11, a12, a13, a14, a15, a16, a17, a18, a19)) : wpX_advise post (f0, f1, f2, f3, f4, a1, a2, a3, a4, a5, a6, a7, a8, a9, a10, a11, a12, a13, a14, a15, a16, a17, a18, a19) x2 := by
  unfold wpX_advise
  refine br_c (fun _ => H) (fun n => br_f ?_ H)
  rcases ca_01 h0 h1 with z | z
  · exact absurd z n
  · exact z
theorem ca_adv_h {post : Int32 → St2 → Prop} {f0 f2 f3 f4 : Int32} {a1 a2 a3 a4 a5 a6 a7 a8 a9 a10 a11 a12 a13 a14 a15 a16 a17 : Nat → Int32} {a18 : Nat → Int64} {a19 : Nat → Int32} {x2 : Int32} (h : x2 = 0 ∨ x2 = 1)
    (H : post (-2) (f0, 0, f2, f3, f4, a1, a2, a3, a4, a5, a6, a7, a8, a9, a10, a11, a12, a13, a14, a15, a16, a17, a18, a19)) : wpX_advise post (f0, 0, f2, f3, f4, a1, a2, a3, a4, a5, a6, a7, a8, a9, a10, a11, a12, a13, a14, a15, a16, a17, a18, a19) x2 := by
  unfold wpX_advise
  have n : ¬ x2 < 0 := by rcases h with rfl | rfl <;> decide
  have m : x2 ≤ 1 := by rcases h with rfl | rfl <;> decide
  exact br_f n (br_t m (br_f (by decide) H))
/-- a piece that was taken: lengths, times, kinds, args, counts at place 0 -/
def ca_G (kk aa x2 : Int32) (a9 a10 a11 a12 a14 : Nat → Int32) : Prop := a9 0 = 1 ∧ a10 0 = x2 ∧ a11 0 = kk ∧ a12 0 = aa ∧ a14 0 = 0
theorem ca_adv_p {post : Int32 → St2 → Prop} {a1 a2 a3 a4 a5 a6 a7 a8 a9 a10 a11 a12 a13 a14 a15 a16 a17 : Nat → Int32} {a18 : Nat → Int64} {a19 : Nat → Int32} {kk aa x2 : Int32} (h : x2 = 0 ∨ x2 = 1) (h6 : a6 0 = kk) (h7 : a7 0 = aa)
    (H : ∀ b9 b10 b11 b12 b13 b14 : Nat → Int32, ca_G kk aa x2 b9 b10 b11 b12 b14 → post 0 (0, 0, 1, 0, 0, a1, a2, a3, a4, a5, a6, a7, a8, b9, b10, b11, b12, b13, b14, a15, a16, a17, a18, a19)) : wpX_advise post (1, 1, 0, 0, 0, a1, a2, a3, a4, a5, a6, a7, a8, a9, a10, a11, a12, a13, a14, a15, a16, a17, a18, a19) x2 := by
  unfold wpX_advise
  have n : ¬ x2 < 0 := by rcases h with rfl | rfl <;> decide
  have m : x2 ≤ 1 := by rcases h with rfl | rfl <;> decide
  refine br_f n (br_t m (br_t rfl (br_t (by decide) (br_t (by decide) ⟨2, ?_⟩))))
  refine br_f (by decide) ⟨pk_in 0 16 (by omega), pk_in 0 96 (by omega), nm_e ⟨pk_in 0 16 (by omega), pk_in 0 96 (by omega), nm_e ⟨pk_in 0 16 (by omega), pk_in 0 96 (by omega), nm_e (nm_r (e' := 1) (by decide) ?_)⟩⟩⟩
  refine br_t (by decide) ⟨pk_in 0 6 (by omega), nm_e ⟨pk_in 0 6 (by omega), nm_e ⟨pk_in 0 6 (by omega), nm_e (nm_r (e' := 1) (by decide) ?_)⟩⟩⟩
  unfold wpX_clear
  exact H _ _ _ _ _ _ ⟨pk_us, pk_us, Eq.trans pk_us h6, Eq.trans pk_us h7, pk_us⟩
end
section
/-- plainHolds answers h at call 0, where method 9 stands -/
def ca_PH (a2 a3 a4 a5 : Nat → Int32) (kk aa h : Int32) : Prop :=
  ∀ (P : Int32 → Prop) (f0 f1 f2 f3 f4 : Int32) (a1 a6 a7 a8 a9 a10 a11 a12 a13 a14 a15 a16 a17 : Nat → Int32) (a18 : Nat → Int64) (a19 : Nat → Int32), a15 0 = 9 → P h → wpX_plainHolds P (f0, f1, f2, f3, f4, a1, a2, a3, a4, a5, a6, a7, a8, a9, a10, a11, a12, a13, a14, a15, a16, a17, a18, a19) kk aa 0
theorem ca_ph0_1 {a2 a3 a4 a5 : Nat → Int32} {aa : Int32} (h : a4 9 = aa) : ca_PH a2 a3 a4 a5 0 aa 1 := by
  intro P f0 f1 f2 f3 f4 a1 a6 a7 a8 a9 a10 a11 a12 a13 a14 a15 a16 a17 a18 a19 h9 H
  exact ⟨pk_in 0 21 (by omega), nm_r h9 (br_f (by decide) (br_f (by decide) (br_t rfl ⟨pk_in 9 16 (by omega), br_t h H⟩)))⟩
theorem ca_ph0_0 {a2 a3 a4 a5 : Nat → Int32} {aa : Int32} (h : ¬ a4 9 = aa) : ca_PH a2 a3 a4 a5 0 aa 0 := by
  intro P f0 f1 f2 f3 f4 a1 a6 a7 a8 a9 a10 a11 a12 a13 a14 a15 a16 a17 a18 a19 h9 H
  exact ⟨pk_in 0 21 (by omega), nm_r h9 (br_f (by decide) (br_f (by decide) (br_t rfl ⟨pk_in 9 16 (by omega), br_f h H⟩)))⟩
theorem ca_ph1_1 {a2 a3 a4 a5 : Nat → Int32} {aa : Int32} (h : a3 9 = aa) : ca_PH a2 a3 a4 a5 1 aa 1 := by
  intro P f0 f1 f2 f3 f4 a1 a6 a7 a8 a9 a10 a11 a12 a13 a14 a15 a16 a17 a18 a19 h9 H
  exact ⟨pk_in 0 21 (by omega), nm_r h9 (br_f (by decide) (br_f (by decide) (br_f (by decide) (br_t rfl ⟨pk_in 9 16 (by omega), br_t h H⟩))))⟩
theorem ca_ph1_0 {a2 a3 a4 a5 : Nat → Int32} {aa : Int32} (h : ¬ a3 9 = aa) : ca_PH a2 a3 a4 a5 1 aa 0 := by
  intro P f0 f1 f2 f3 f4 a1 a6 a7 a8 a9 a10 a11 a12 a13 a14 a15 a16 a17 a18 a19 h9 H
  exact ⟨pk_in 0 21 (by omega), nm_r h9 (br_f (by decide) (br_f (by decide) (br_f (by decide) (br_t rfl ⟨pk_in 9 16 (by omega), br_f h H⟩))))⟩
theorem ca_ph2_1 {a2 a3 a4 a5 : Nat → Int32} {aa : Int32} {c : Nat} (hc : c < 8) (h3 : a3 9 = nI c) (h : (((a2 c) >>> (aa &&& 31)) &&& 1) = 1) : ca_PH a2 a3 a4 a5 2 aa 1 := by
  intro P f0 f1 f2 f3 f4 a1 a6 a7 a8 a9 a10 a11 a12 a13 a14 a15 a16 a17 a18 a19 h9 H
  have e9 : (9 : Int32).toNatClampNeg = 9 := by decide
  refine ⟨pk_in 0 21 (by omega), nm_r h9 (br_f (by decide) (br_f (by decide) (br_f (by decide) (br_f (by decide) (br_t rfl ⟨pk_in 9 16 (by omega), ?_⟩)))))⟩
  rw [e9, h3, nI_clamp (show c < 2 ^ 31 by omega)]
  exact ⟨pk_in c 8 hc, br_t h H⟩
theorem ca_ph2_0 {a2 a3 a4 a5 : Nat → Int32} {aa : Int32} {c : Nat} (hc : c < 8) (h3 : a3 9 = nI c) (h : ¬ (((a2 c) >>> (aa &&& 31)) &&& 1) = 1) : ca_PH a2 a3 a4 a5 2 aa 0 := by
  intro P f0 f1 f2 f3 f4 a1 a6 a7 a8 a9 a10 a11 a12 a13 a14 a15 a16 a17 a18 a19 h9 H
  have e9 : (9 : Int32).toNatClampNeg = 9 := by decide
  refine ⟨pk_in 0 21 (by omega), nm_r h9 (br_f (by decide) (br_f (by decide) (br_f (by decide) (br_f (by decide) (br_t rfl ⟨pk_in 9 16 (by omega), ?_⟩)))))⟩
  rw [e9, h3, nI_clamp (show c < 2 ^ 31 by omega)]
  exact ⟨pk_in c 8 hc, br_f h H⟩
theorem ca_ph3_1 {a2 a3 a4 a5 : Nat → Int32} {aa : Int32} (h : (((a5 9) >>> (aa &&& 31)) &&& 1) = 1) : ca_PH a2 a3 a4 a5 3 aa 1 := by
  intro P f0 f1 f2 f3 f4 a1 a6 a7 a8 a9 a10 a11 a12 a13 a14 a15 a16 a17 a18 a19 h9 H
  exact ⟨pk_in 0 21 (by omega), nm_r h9 (br_f (by decide) (br_f (by decide) (br_f (by decide) (br_f (by decide) (br_f (by decide) (br_t rfl ⟨pk_in 9 16 (by omega), br_t h H⟩))))))⟩
theorem ca_ph3_0 {a2 a3 a4 a5 : Nat → Int32} {aa : Int32} (h : ¬ (((a5 9) >>> (aa &&& 31)) &&& 1) = 1) : ca_PH a2 a3 a4 a5 3 aa 0 := by
  intro P f0 f1 f2 f3 f4 a1 a6 a7 a8 a9 a10 a11 a12 a13 a14 a15 a16 a17 a18 a19 h9 H
  exact ⟨pk_in 0 21 (by omega), nm_r h9 (br_f (by decide) (br_f (by decide) (br_f (by decide) (br_f (by decide) (br_f (by decide) (br_t rfl ⟨pk_in 9 16 (by omega), br_f h H⟩))))))⟩
theorem ca_ph4 {a2 a3 a4 a5 : Nat → Int32} {aa : Int32} : ca_PH a2 a3 a4 a5 4 aa 0 := by
  intro P f0 f1 f2 f3 f4 a1 a6 a7 a8 a9 a10 a11 a12 a13 a14 a15 a16 a17 a18 a19 h9 H
  exact ⟨pk_in 0 21 (by omega), nm_r h9 (br_f (by decide) (br_f (by decide) (br_f (by decide) (br_f (by decide) (br_f (by decide) (br_f (by decide) (br_t rfl (br_t (by decide) H))))))))⟩
theorem ca_ph5_1 {a2 a3 a4 a5 : Nat → Int32} {aa : Int32} (h : ¬ 0 < aa) : ca_PH a2 a3 a4 a5 5 aa 1 := by
  intro P f0 f1 f2 f3 f4 a1 a6 a7 a8 a9 a10 a11 a12 a13 a14 a15 a16 a17 a18 a19 h9 H
  exact ⟨pk_in 0 21 (by omega), nm_r h9 (br_f (by decide) (br_t (by decide) (br_f h H)))⟩
theorem ca_ph5_0 {a2 a3 a4 a5 : Nat → Int32} {aa : Int32} (h : 0 < aa) : ca_PH a2 a3 a4 a5 5 aa 0 := by
  intro P f0 f1 f2 f3 f4 a1 a6 a7 a8 a9 a10 a11 a12 a13 a14 a15 a16 a17 a18 a19 h9 H
  exact ⟨pk_in 0 21 (by omega), nm_r h9 (br_f (by decide) (br_t (by decide) (br_t h H)))⟩
/-- the last turn of workOut's loop: it stores -/
theorem ca_wo_x {post : St2 → Prop} {x2 x3 x5 x6 f0 f1 f2 f3 f4 : Int32} {x7 : Int64} {a1 a2 a3 a4 a5 a6 a7 a8 a9 a10 a11 a12 a13 a14 a15 a16 a17 : Nat → Int32} {a18 : Nat → Int64} {a19 : Nat → Int32} {n : Nat} (h9 : a9 0 = 1)
    (H : ∀ (b16 b17 : Nat → Int32) (b18 : Nat → Int64), b16 0 = x3 → post (f0, f1, f2, f3, f4, a1, a2, a3, a4, a5, a6, a7, a8, a9, a10, a11, a12, a13, a14, a15, b16, b17, b18, a19)) : wX_workOut_70 post 0 x2 0 x5 x6 f0 f1 f2 f3 f4 a1 a2 a3 a4 a5 a6 a7 a8 a9 a10 a11 a12 a13 a14 a15 a16 a17 a18 a19 (n + 1) x3 x7 1 := by
  refine ⟨pk_in 0 6 (by omega), br_t ?_ ⟨pk_in 0 126 (by omega), nm_e ⟨pk_in 0 126 (by omega), nm_e ⟨pk_in 0 126 (by omega), nm_e (H _ _ _ pk_us)⟩⟩⟩⟩
  show a9 0 ≤ 1
  rw [h9]
  decide
/-- workOut of piece 0 at call 0 -/
theorem ca_work {post : St2 → Prop} {f0 f1 f2 f3 f4 : Int32} {a1 a2 a3 a4 a5 a6 a7 a8 a9 a10 a11 a12 a13 a14 a15 a16 a17 : Nat → Int32} {a18 : Nat → Int64} {a19 : Nat → Int32} {kk aa x2 h : Int32} (hG : ca_G kk aa x2 a9 a10 a11 a12 a14) (hk : ¬ 5 < kk) (hP : ca_PH a2 a3 a4 a5 kk aa h) (hh : h = 0 ∨ h = 1) (hm : a15 0 = 9)
    (H : ∀ (b16 b17 : Nat → Int32) (b18 : Nat → Int64), b16 0 = h → post (f0, f1, f2, f3, f4, a1, a2, a3, a4, a5, a6, a7, a8, a9, a10, a11, a12, a13, a14, a15, b16, b17, b18, a19)) : wpX_workOut post (f0, f1, f2, f3, f4, a1, a2, a3, a4, a5, a6, a7, a8, a9, a10, a11, a12, a13, a14, a15, a16, a17, a18, a19) 0 0 := by
  obtain ⟨g9, g10, g11, g12, g14⟩ := hG
  unfold wpX_workOut
  refine nm_r (e' := 0) (by decide) (br_t (by decide) ?_)
  unfold wX_workOut_27
  refine br_t (by decide) ?_
  unfold wX_workOut_46
  refine br_t (by decide) ⟨2, pk_in 0 6 (by omega), br_f ?_ (nm_r (e' := 0) (by decide) ⟨pk_in 0 96 (by omega), br_f ?_ ⟨pk_in 0 96 (by omega), pk_in 0 96 (by omega), ?_⟩⟩)⟩
  · show ¬ a9 0 ≤ 0
    rw [g9]
    decide
  · show ¬ 5 < a11 0
    rw [g11]
    exact hk
  · have e0 : (0 : Int32).toNatClampNeg = 0 := by decide
    rw [e0, g11, g12]
    refine hP _ _ _ _ _ _ _ _ _ _ _ _ _ _ _ _ _ _ _ _ _ hm ?_
    unfold wX_workOut_181
    rcases hh with rfl | rfl
    · exact br_t rfl (nm_r (e' := 1) (by decide) (ca_wo_x g9 H))
    · refine br_f (by decide) (nm_r (e' := 1) (by decide) ?_)
      unfold wpX_countUp wpX_counted
      exact br_c (fun _ => nm_r (e' := 1) (by decide) (ca_wo_x g9 H)) (fun _ => nm_r (e' := 1) (by decide) (ca_wo_x g9 H))
theorem ca_whole {P : Int32 → Prop} {f0 f1 f2 f3 f4 : Int32} {a1 a2 a3 a4 a5 a6 a7 a8 a9 a10 a11 a12 a13 a14 a15 a16 a17 : Nat → Int32} {a18 : Nat → Int64} {a19 : Nat → Int32} {h : Int32} (hh : h = 0 ∨ h = 1) (g9 : a9 0 = 1) (g16 : a16 0 = h) (H : P h) : wpX_wholeHolds P (f0, f1, f2, f3, f4, a1, a2, a3, a4, a5, a6, a7, a8, a9, a10, a11, a12, a13, a14, a15, a16, a17, a18, a19) 0 0 := by
  have e : ((21 : Int32) * 0 + 0).toNatClampNeg = 0 := by decide
  have e0 : (0 : Int32).toNatClampNeg = 0 := by decide
  unfold wpX_wholeHolds
  refine ⟨pk_in 0 126 (by omega), pk_in 0 6 (by omega), ?_⟩
  rw [e, e0, g9, g16]
  unfold wpX_bit
  rcases hh with rfl | rfl
  · exact br_f (by decide) ⟨rfl, H⟩
  · exact br_t (by decide) ⟨rfl, H⟩
theorem ca_bool {h : Int32} (hh : h = 0 ∨ h = 1) : narrow .boolean (.int h) = .int h := by
  rcases hh with rfl | rfl <;> rfl
theorem ca_would {post : Int32 → St2 → Prop} {f0 f1 f4 : Int32} {a1 a2 a3 a4 a5 a6 a7 a8 a9 a10 a11 a12 a13 a14 a15 a16 a17 : Nat → Int32} {a18 : Nat → Int64} {a19 : Nat → Int32} {kk aa x2 h : Int32} (hG : ca_G kk aa x2 a9 a10 a11 a12 a14) (hk : ¬ 5 < kk) (hP : ca_PH a2 a3 a4 a5 kk aa h) (hh : h = 0 ∨ h = 1)
    (H : ∀ (b15 b16 b17 : Nat → Int32) (b18 : Nat → Int64), post h (f0, f1, 1, 0, f4, a1, a2, a3, a4, a5, a6, a7, a8, a9, a10, a11, a12, a13, a14, b15, b16, b17, b18, a19)) : wpX_wouldHold post (f0, f1, 1, 0, f4, a1, a2, a3, a4, a5, a6, a7, a8, a9, a10, a11, a12, a13, a14, a15, a16, a17, a18, a19) 0 9 := by
  unfold wpX_wouldHold
  refine br_f (by decide) (br_f (by decide) (br_f (by decide) (br_f (by decide) (br_f (by decide) (br_f (by decide) (br_t (by decide) ?_))))))
  unfold wpX_tried
  refine ⟨pk_in 0 21 (by omega), nm_e ?_⟩
  refine ca_work hG hk hP hh pk_us (fun b16 b17 b18 e16 => ?_)
  refine ca_whole hh hG.1 e16 ⟨ca_bool hh, ?_⟩
  rcases hh with rfl | rfl
  · exact br_t rfl (H _ _ _ _)
  · exact br_f (by decide) (H _ _ _ _)
theorem ca_give {post : St2 → Prop} {f0 f1 f2 f3 : Int32} {a1 a2 a3 a4 a5 a6 a7 a8 a9 a10 a11 a12 a13 a14 a15 a16 a17 : Nat → Int32} {a18 : Nat → Int64} {a19 : Nat → Int32} (g14 : a14 0 = 0)
    (H : ∀ b14 b19 : Nat → Int32, b14 0 = 1 → b19 0 = 0 → post (f0, f1, f2, f3, 1, a1, a2, a3, a4, a5, a6, a7, a8, a9, a10, a11, a12, a13, b14, a15, a16, a17, a18, b19)) : wpX_give post (f0, f1, f2, f3, 0, a1, a2, a3, a4, a5, a6, a7, a8, a9, a10, a11, a12, a13, a14, a15, a16, a17, a18, a19) 0 := by
  unfold wpX_give
  refine ⟨by decide, pk_in 0 64 (by omega), nm_e (nm_r (e' := 1) (by decide) ⟨pk_in 0 6 (by omega), pk_in 0 6 (by omega), nm_e (H _ _ ?_ pk_us)⟩)⟩
  refine Eq.trans pk_us ?_
  show a14 0 + 1 = 1
  rw [g14]
  decide
end
section
theorem ca_call_x {post : Int32 → St2 → Prop} {n : Nat} {r f0 f1 f4 : Int32} {a1 a2 a3 a4 a5 a6 a7 a8 a9 a10 a11 a12 a13 a14 a15 a16 a17 : Nat → Int32} {a18 : Nat → Int64} {a19 : Nat → Int32} (H : post r (f0, f1, 1, 1, f4, a1, a2, a3, a4, a5, a6, a7, a8, a9, a10, a11, a12, a13, a14, a15, a16, a17, a18, a19)) : wX_call_35 post (n + 1) r 1 f0 f1 1 0 f4 a1 a2 a3 a4 a5 a6 a7 a8 a9 a10 a11 a12 a13 a14 a15 a16 a17 a18 a19 :=
  br_t (by decide) (nm_r (e' := 1) (by decide) H)
/-- a call that gives nothing -/
theorem ca_call_0 {post : Int32 → St2 → Prop} {f0 f1 : Int32} {a1 a2 a3 a4 a5 a6 a7 a8 a9 a10 a11 a12 a13 a14 a15 a16 a17 : Nat → Int32} {a18 : Nat → Int64} {a19 : Nat → Int32} {kk aa x2 h : Int32} (hG : ca_G kk aa x2 a9 a10 a11 a12 a14) (hk : ¬ 5 < kk) (hP : ca_PH a2 a3 a4 a5 kk aa h) (hh : h = 0 ∨ h = 1) (hx : ¬ x2 = 0 ∨ h = 0)
    (H : ∀ (b15 b16 b17 : Nat → Int32) (b18 : Nat → Int64), b16 0 = h → post 0 (f0, f1, 1, 1, 0, a1, a2, a3, a4, a5, a6, a7, a8, a9, a10, a11, a12, a13, a14, b15, b16, b17, b18, a19)) : wpX_call post (f0, f1, 1, 0, 0, a1, a2, a3, a4, a5, a6, a7, a8, a9, a10, a11, a12, a13, a14, a15, a16, a17, a18, a19) 9 := by
  unfold wpX_call
  refine br_f (by decide) (br_f (by decide) (br_f (by decide) (br_t (by decide) ⟨pk_in 0 21 (by omega), nm_e ⟨2, br_f (by decide) ?_⟩⟩)))
  refine ca_work hG hk hP hh pk_us (fun b16 b17 b18 e16 => ⟨pk_in 0 6 (by omega), ?_⟩)
  obtain ⟨g9, g10, g11, g12, g14⟩ := hG
  by_cases ex : x2 = 0
  · rcases hx with hx | hx
    · exact absurd ex hx
    · refine br_t (Eq.trans g10 ex) (ca_whole hh g9 e16 (br_t hx ?_))
      unfold wX_call_77 wX_call_78
      exact br_t rfl (nm_r (e' := 1) (by decide) (ca_call_x (H _ _ _ _ e16)))
  · refine br_f (fun z => ex (Eq.trans g10.symm z)) ?_
    unfold wX_call_77 wX_call_78
    exact br_t rfl (nm_r (e' := 1) (by decide) (ca_call_x (H _ _ _ _ e16)))
/-- a call that gives piece 0 -/
theorem ca_call_1 {post : Int32 → St2 → Prop} {f0 f1 : Int32} {a1 a2 a3 a4 a5 a6 a7 a8 a9 a10 a11 a12 a13 a14 a15 a16 a17 : Nat → Int32} {a18 : Nat → Int64} {a19 : Nat → Int32} {kk aa : Int32} (hG : ca_G kk aa 0 a9 a10 a11 a12 a14) (hk : ¬ 5 < kk) (hP : ca_PH a2 a3 a4 a5 kk aa 1)
    (H : ∀ (b14 b15 b16 b17 : Nat → Int32) (b18 : Nat → Int64) (b19 : Nat → Int32), b14 0 = 1 → b19 0 = 0 → post 1 (f0, f1, 1, 1, 1, a1, a2, a3, a4, a5, a6, a7, a8, a9, a10, a11, a12, a13, b14, b15, b16, b17, b18, b19)) : wpX_call post (f0, f1, 1, 0, 0, a1, a2, a3, a4, a5, a6, a7, a8, a9, a10, a11, a12, a13, a14, a15, a16, a17, a18, a19) 9 := by
  unfold wpX_call
  refine br_f (by decide) (br_f (by decide) (br_f (by decide) (br_t (by decide) ⟨pk_in 0 21 (by omega), nm_e ⟨2, br_f (by decide) ?_⟩⟩)))
  refine ca_work hG hk hP (Or.inr rfl) pk_us (fun b16 b17 b18 e16 => ⟨pk_in 0 6 (by omega), ?_⟩)
  obtain ⟨g9, g10, g11, g12, g14⟩ := hG
  refine br_t g10 (ca_whole (Or.inr rfl) g9 e16 (br_f (by decide) ?_))
  unfold wX_call_78
  refine br_f (by decide) (ca_give g14 (fun b14 b19 e14 e19 => nm_r (e' := 1) (by decide) (nm_r (e' := 1) (by decide) (ca_call_x (H _ _ _ _ _ _ e14 e19)))))
theorem ca_back_x {post : Int32 → St2 → Prop} {n : Nat} {r f0 f1 f2 f3 f4 : Int32} {a1 a2 a3 a4 a5 a6 a7 a8 a9 a10 a11 a12 a13 a14 a15 a16 a17 : Nat → Int32} {a18 : Nat → Int64} {a19 : Nat → Int32} (H : post r (f0, f1, f2, f3, f4, a1, a2, a3, a4, a5, a6, a7, a8, a9, a10, a11, a12, a13, a14, a15, a16, a17, a18, a19)) : wX_giveBack_28 post (n + 1) r (-1) f0 f1 f2 f3 f4 a1 a2 a3 a4 a5 a6 a7 a8 a9 a10 a11 a12 a13 a14 a15 a16 a17 a18 a19 :=
  br_t (by decide) H
/-- a return that gives nothing -/
theorem ca_back_0 {post : Int32 → St2 → Prop} {f0 f1 f4 : Int32} {a1 a2 a3 a4 a5 a6 a7 a8 a9 a10 a11 a12 a13 a14 a15 a16 a17 : Nat → Int32} {a18 : Nat → Int64} {a19 : Nat → Int32} {x2 h : Int32} (g9 : a9 0 = 1) (g10 : a10 0 = x2) (hh : h = 0 ∨ h = 1) (hx : ¬ x2 = 1 ∨ (h = 0 ∧ a16 0 = h))
    (H : post 0 (f0, f1, 1, 0, f4, a1, a2, a3, a4, a5, a6, a7, a8, a9, a10, a11, a12, a13, a14, a15, a16, a17, a18, a19)) : wpX_giveBack post (f0, f1, 1, 1, f4, a1, a2, a3, a4, a5, a6, a7, a8, a9, a10, a11, a12, a13, a14, a15, a16, a17, a18, a19) := by
  unfold wpX_giveBack
  refine br_f (by decide) (nm_r (e' := 0) (by decide) (nm_r (e' := 0) (by decide) ⟨2, br_f (by decide) ⟨pk_in 0 6 (by omega), ?_⟩⟩))
  by_cases ex : x2 = 1
  · rcases hx with hx | ⟨hx, e16⟩
    · exact absurd ex hx
    · refine br_t (Eq.trans g10 ex) (ca_whole hh g9 e16 (br_t hx ?_))
      unfold wX_giveBack_58 wX_giveBack_59
      exact br_t rfl (nm_r (e' := -1) (by decide) (ca_back_x H))
  · refine br_f (fun z => ex (Eq.trans g10.symm z)) ?_
    unfold wX_giveBack_58 wX_giveBack_59
    exact br_t rfl (nm_r (e' := -1) (by decide) (ca_back_x H))
/-- a return that gives piece 0 -/
theorem ca_back_1 {post : Int32 → St2 → Prop} {f0 f1 : Int32} {a1 a2 a3 a4 a5 a6 a7 a8 a9 a10 a11 a12 a13 a14 a15 a16 a17 : Nat → Int32} {a18 : Nat → Int64} {a19 : Nat → Int32} (g9 : a9 0 = 1) (g10 : a10 0 = 1) (g14 : a14 0 = 0) (e16 : a16 0 = 1)
    (H : ∀ b14 b19 : Nat → Int32, b14 0 = 1 → b19 0 = 0 → post 1 (f0, f1, 1, 0, 1, a1, a2, a3, a4, a5, a6, a7, a8, a9, a10, a11, a12, a13, b14, a15, a16, a17, a18, b19)) : wpX_giveBack post (f0, f1, 1, 1, 0, a1, a2, a3, a4, a5, a6, a7, a8, a9, a10, a11, a12, a13, a14, a15, a16, a17, a18, a19) := by
  unfold wpX_giveBack
  refine br_f (by decide) (nm_r (e' := 0) (by decide) (nm_r (e' := 0) (by decide) ⟨2, br_f (by decide) ⟨pk_in 0 6 (by omega), ?_⟩⟩))
  refine br_t g10 (ca_whole (Or.inr rfl) g9 e16 (br_f (by decide) ?_))
  unfold wX_giveBack_59
  exact br_f (by decide) (ca_give g14 (fun b14 b19 e14 e19 => nm_r (e' := 1) (by decide) (nm_r (e' := -1) (by decide) (ca_back_x (H _ _ e14 e19)))))
/-- no piece: a call, a return -/
theorem ca_call_n {post : Int32 → St2 → Prop} {f0 f1 f4 : Int32} {a1 a2 a3 a4 a5 a6 a7 a8 a9 a10 a11 a12 a13 a14 a15 a16 a17 : Nat → Int32} {a18 : Nat → Int64} {a19 : Nat → Int32} (H : ∀ b15 : Nat → Int32, post 0 (f0, f1, 0, 1, f4, a1, a2, a3, a4, a5, a6, a7, a8, a9, a10, a11, a12, a13, a14, b15, a16, a17, a18, a19)) : wpX_call post (f0, f1, 0, 0, f4, a1, a2, a3, a4, a5, a6, a7, a8, a9, a10, a11, a12, a13, a14, a15, a16, a17, a18, a19) 9 := by
  unfold wpX_call
  exact br_f (by decide) (br_f (by decide) (br_f (by decide) (br_t (by decide) ⟨pk_in 0 21 (by omega), nm_e ⟨1, br_t (by decide) (nm_r (e' := 1) (by decide) (H _))⟩⟩)))
theorem ca_back_n {post : Int32 → St2 → Prop} {f0 f1 f4 : Int32} {a1 a2 a3 a4 a5 a6 a7 a8 a9 a10 a11 a12 a13 a14 a15 a16 a17 : Nat → Int32} {a18 : Nat → Int64} {a19 : Nat → Int32} (H : post 0 (f0, f1, 0, 0, f4, a1, a2, a3, a4, a5, a6, a7, a8, a9, a10, a11, a12, a13, a14, a15, a16, a17, a18, a19)) : wpX_giveBack post (f0, f1, 0, 1, f4, a1, a2, a3, a4, a5, a6, a7, a8, a9, a10, a11, a12, a13, a14, a15, a16, a17, a18, a19) := by
  unfold wpX_giveBack
  exact br_f (by decide) (nm_r (e' := 0) (by decide) (nm_r (e' := -1) (by decide) ⟨1, ca_back_x H⟩))
end
section
/-- the end of the law, nothing made -/
theorem ca_tail0 {post : Int32 → St0 → Prop} (hp : post 1 ()) {mc ms kc ks : Nat} {x2 z0 f0 f1 : Int32} {a1 a2 a3 a4 a5 a6 a7 a8 a9 a10 a11 a12 a13 a14 a15 a16 a17 : Nat → Int32} {a18 : Nat → Int64} {a19 : Nat → Int32} : wL_lawOf_388 post mc ms x2 0 z0 kc ks f0 f1 0 0 0 a1 a2 a3 a4 a5 a6 a7 a8 a9 a10 a11 a12 a13 a14 a15 a16 a17 a18 a19 := by
  unfold wL_lawOf_388 wpX_wouldHold
  refine br_f (by decide) (br_t (by decide) (br_t rfl (br_t rfl ?_)))
  unfold wL_lawOf_417
  refine br_t rfl (ca_call_n (fun b15 => br_t rfl ?_))
  unfold wL_lawOf_447 wL_lawOf_448
  refine br_t rfl (ca_back_n (br_t rfl ?_))
  unfold wL_lawOf_475 wL_lawOf_476
  refine br_t rfl (br_t rfl ?_)
  unfold wL_lawOf_500 wL_lawOf_501
  refine br_t rfl (br_f (by decide) (br_t (by decide) (br_t rfl ?_)))
  unfold wL_lawOf_524 wL_lawOf_525
  refine br_t rfl (br_f (by decide) (br_t (by decide) (br_t rfl (br_t rfl ?_))))
  exact br_t rfl hp
/-- the end of the law, behind the two calls: made, held -/
theorem ca_end1 {post : Int32 → St0 → Prop} (hp : post 1 ()) {mc ms kc ks : Nat} {f0 f1 : Int32} {a1 a2 a3 a4 a5 a6 a7 a8 a9 a10 a11 a12 a13 a14 a15 a16 a17 : Nat → Int32} {a18 : Nat → Int64} {a19 : Nat → Int32} (g14 : a14 0 = 1) (g19 : a19 0 = 0) {z : Int32} : wL_lawOf_476 post mc ms 1 1 z z kc ks f0 f1 1 0 1 a1 a2 a3 a4 a5 a6 a7 a8 a9 a10 a11 a12 a13 a14 a15 a16 a17 a18 a19 := by
  unfold wL_lawOf_476
  refine br_t rfl (br_f (by decide) (br_f (by decide) ?_))
  unfold wL_lawOf_501
  refine br_t rfl (br_f (by decide) (br_f (by decide) (br_t (by decide) ⟨by decide, pk_in 0 64 (by omega), br_f (by decide) (br_f (by decide) ?_)⟩)))
  unfold wL_lawOf_525
  refine br_t g19 (br_f (by decide) (br_f (by decide) (br_f (by decide) ⟨pk_in 0 6 (by omega), br_f (by decide) (br_f (by decide) ?_)⟩)))
  exact br_t g14 hp
/-- made, not held -/
theorem ca_end0 {post : Int32 → St0 → Prop} (hp : post 1 ()) {mc ms kc ks : Nat} {f0 f1 : Int32} {a1 a2 a3 a4 a5 a6 a7 a8 a9 a10 a11 a12 a13 a14 a15 a16 a17 : Nat → Int32} {a18 : Nat → Int64} {a19 : Nat → Int32} (g14 : a14 0 = 0) {z : Int32} : wL_lawOf_476 post mc ms 1 0 z z kc ks f0 f1 1 0 0 a1 a2 a3 a4 a5 a6 a7 a8 a9 a10 a11 a12 a13 a14 a15 a16 a17 a18 a19 := by
  unfold wL_lawOf_476
  refine br_t rfl (br_f (by decide) (br_t rfl ?_))
  unfold wL_lawOf_500 wL_lawOf_501
  refine br_t rfl (br_f (by decide) (br_t (by decide) (br_f (by decide) (br_t rfl ?_))))
  unfold wL_lawOf_524 wL_lawOf_525
  refine br_t rfl (br_f (by decide) (br_f (by decide) (br_f (by decide) ⟨pk_in 0 6 (by omega), br_f (by decide) (br_t rfl ?_)⟩)))
  exact br_t g14 hp
/-- the end of the law, made -/
theorem ca_tail1 {post : Int32 → St0 → Prop} (hp : post 1 ()) {mc ms kc ks : Nat} {f0 f1 : Int32} {a1 a2 a3 a4 a5 a6 a7 a8 a9 a10 a11 a12 a13 a14 a15 a16 a17 : Nat → Int32} {a18 : Nat → Int64} {a19 : Nat → Int32} {kk aa x2 h : Int32} (hG : ca_G kk aa x2 a9 a10 a11 a12 a14) (hk : ¬ 5 < kk) (hP : ca_PH a2 a3 a4 a5 kk aa h) (hh : h = 0 ∨ h = 1) (hx : x2 = 0 ∨ x2 = 1) :
    wL_lawOf_388 post mc ms x2 1 h kc ks f0 f1 1 0 0 a1 a2 a3 a4 a5 a6 a7 a8 a9 a10 a11 a12 a13 a14 a15 a16 a17 a18 a19 := by
  unfold wL_lawOf_388
  refine ca_would hG hk hP hh (fun b15 b16 b17 b18 => br_f (by decide) ?_)
  rcases hh with rfl | rfl
  · refine br_t rfl ?_
    unfold wL_lawOf_417
    refine br_t rfl (ca_call_0 hG hk hP (Or.inl rfl) (Or.inr rfl) (fun c15 c16 c17 c18 e16 => br_f (by decide) ?_))
    have E : wL_lawOf_448 post mc ms x2 1 0 0 0 kc ks f0 f1 1 1 0 a1 a2 a3 a4 a5 a6 a7 a8 a9 a10 a11 a12 a13 a14 c15 c16 c17 c18 a19 := by
      unfold wL_lawOf_448
      refine br_t rfl (ca_back_0 hG.1 hG.2.1 (Or.inl rfl) (Or.inr ⟨rfl, e16⟩) (br_f (by decide) (br_c (fun _ => br_t rfl ?_) (fun _ => ?_))))
      · unfold wL_lawOf_475
        exact ca_end0 hp hG.2.2.2.2
      · unfold wL_lawOf_475
        exact ca_end0 hp hG.2.2.2.2
    refine br_c (fun _ => br_t rfl ?_) (fun _ => ?_)
    · unfold wL_lawOf_447
      exact E
    · unfold wL_lawOf_447
      exact E
  · refine br_f (by decide) ?_
    unfold wL_lawOf_417
    rcases hx with rfl | rfl
    · refine br_t rfl (ca_call_1 hG hk hP (fun c14 c15 c16 c17 c18 c19 e14 e19 => br_f (by decide) (br_t rfl (br_f (by decide) ?_))))
      unfold wL_lawOf_448
      refine br_t rfl (ca_back_0 (h := 0) hG.1 hG.2.1 (Or.inl rfl) (Or.inl (by decide)) (br_f (by decide) (br_f (by decide) ?_)))
      unfold wL_lawOf_475
      exact ca_end1 hp e14 e19
    · refine br_t rfl (ca_call_0 hG hk hP (Or.inr rfl) (Or.inl (by decide)) (fun c15 c16 c17 c18 e16 => br_f (by decide) (br_f (by decide) ?_)))
      unfold wL_lawOf_447 wL_lawOf_448
      refine br_t rfl (ca_back_1 hG.1 hG.2.1 hG.2.2.2.2 e16 (fun b14 b19 e14 e19 => br_f (by decide) (br_t rfl (br_f (by decide) ?_))))
      exact ca_end1 hp e14 e19
end
section
/-- nothing made: whatever the law thinks of the formula -/
theorem ca_282_0 {post : Int32 → St0 → Prop} (hp : post 1 ()) {mc ms kc ks : Nat} {x0 x1 x2 x7 x8 x9 z f0 f1 : Int32} {a1 a2 a3 a4 a5 a6 a7 a8 a9 a10 a11 a12 a13 a14 a15 a16 a17 : Nat → Int32} {a18 : Nat → Int64} {a19 : Nat → Int32} : wL_lawOf_282 post mc ms x0 x1 x2 x7 x8 x9 0 z z kc ks f0 f1 0 0 0 a1 a2 a3 a4 a5 a6 a7 a8 a9 a10 a11 a12 a13 a14 a15 a16 a17 a18 a19 := by
  unfold wL_lawOf_282
  refine br_t rfl (br_c (fun _ => br_c (fun _ => ca_tail0 hp) (fun _ => ca_tail0 hp)) (fun _ => br_c (fun _ => br_c (fun _ => ca_tail0 hp) (fun _ => ca_tail0 hp)) (fun _ => br_c (fun _ => br_c (fun _ => ?_) (fun _ => br_c (fun _ => ?_) (fun _ => ca_tail0 hp))) (fun _ => br_c (fun _ => br_c (fun _ => ca_tail0 hp) (fun _ => ca_tail0 hp)) (fun _ => br_c (fun _ => br_c (fun _ => ca_tail0 hp) (fun _ => ?_)) (fun _ => ?_))))))
  · unfold wL_lawOf_343
    exact ca_tail0 hp
  · unfold wL_lawOf_343
    exact ca_tail0 hp
  · unfold wL_lawOf_387
    exact ca_tail0 hp
  · unfold wL_lawOf_387
    exact ca_tail0 hp
/-- nothing put -/
theorem ca_226_0 {post : Int32 → St0 → Prop} (hp : post 1 ()) {mc ms kc ks : Nat} {x0 x1 x2 x7 x8 x9 z : Int32} {a1 a2 a3 a4 a5 a6 a7 a8 a9 a10 a11 a12 a13 a14 a15 a16 a17 : Nat → Int32} {a18 : Nat → Int64} {a19 : Nat → Int32} : wL_lawOf_226 post mc ms x0 x1 x2 x7 x8 x9 0 z z kc ks 0 0 0 0 0 a1 a2 a3 a4 a5 a6 a7 a8 a9 a10 a11 a12 a13 a14 a15 a16 a17 a18 a19 := by
  unfold wL_lawOf_226
  refine br_t rfl (br_t rfl ?_)
  unfold wL_lawOf_249 wL_lawOf_250
  by_cases n0 : x2 = 0
  · refine ca_adv_h (Or.inl n0) (br_t n0 ?_)
    unfold wL_lawOf_271
    exact br_t rfl (ca_282_0 hp)
  · by_cases n1 : x2 = 1
    · refine ca_adv_h (Or.inr n1) (br_f n0 (br_t n1 ?_))
      unfold wL_lawOf_271
      exact br_t rfl (ca_282_0 hp)
    · exact ca_adv_t n0 n1 (br_f n0 (br_f n1 (ca_282_0 hp)))
theorem ca_197_out {post : Int32 → St0 → Prop} (hp : post 1 ()) {mc ms kc ks : Nat} {kk aa x2 x7 x8 x9 : Int32} {a1 a2 a3 a4 a5 a6 a7 a8 a9 a10 a11 a12 a13 a14 a15 a16 a17 : Nat → Int32} {a18 : Nat → Int64} {a19 : Nat → Int32} (h : kk < 0 ∨ 13 < kk ∨ ca_FT kk aa 0) : wL_lawOf_197 post mc ms kk aa x2 x7 x8 x9 0 0 kc ks 0 0 0 0 0 a1 a2 a3 a4 a5 a6 a7 a8 a9 a10 a11 a12 a13 a14 a15 a16 a17 a18 a19 := by
  unfold wL_lawOf_197
  exact ca_tok_bad h (br_t rfl (ca_226_0 hp))
theorem ca_197_3 {post : Int32 → St0 → Prop} (hp : post 1 ()) {mc ms kc ks : Nat} {kk aa x2 x7 x8 x9 : Int32} {a1 a2 a3 a4 a5 a6 a7 a8 a9 a10 a11 a12 a13 a14 a15 a16 a17 : Nat → Int32} {a18 : Nat → Int64} {a19 : Nat → Int32} (h0 : ¬ kk < 0) (h1 : ¬ 13 < kk) (h2 : 5 < kk) (hf : ca_FT kk aa 1) : wL_lawOf_197 post mc ms kk aa x2 x7 x8 x9 1 0 kc ks 0 0 0 0 0 a1 a2 a3 a4 a5 a6 a7 a8 a9 a10 a11 a12 a13 a14 a15 a16 a17 a18 a19 := by
  unfold wL_lawOf_197
  exact ca_tok_3 h0 h1 h2 hf (br_f (by decide) (br_t rfl (ca_226_0 hp)))
theorem ca_197_put {post : Int32 → St0 → Prop} (hp : post 1 ()) {mc ms kc ks : Nat} {kk aa x2 x7 x8 x9 : Int32} {a1 a2 a3 a4 a5 a6 a7 a8 a9 a10 a11 a12 a13 a14 a15 a16 a17 : Nat → Int32} {a18 : Nat → Int64} {a19 : Nat → Int32} (h0 : ¬ kk < 0) (h1 : ¬ 13 < kk) (h2 : ¬ 5 < kk) (hf : ca_FT kk aa 1)
    (HH : ∀ b6 b7 b8 b9 b10 b11 b12 b13 b14 : Nat → Int32, ca_G kk aa x2 b9 b10 b11 b12 b14 → (x2 = 0 ∨ x2 = 1) → wL_lawOf_282 post mc ms kk aa x2 x7 x8 x9 1 0 0 kc ks 0 0 1 0 0 a1 a2 a3 a4 a5 b6 b7 b8 b9 b10 b11 b12 b13 b14 a15 a16 a17 a18 a19) :
    wL_lawOf_197 post mc ms kk aa x2 x7 x8 x9 1 1 kc ks 0 0 0 0 0 a1 a2 a3 a4 a5 a6 a7 a8 a9 a10 a11 a12 a13 a14 a15 a16 a17 a18 a19 := by
  unfold wL_lawOf_197
  refine ca_tok_1 h0 h1 h2 hf (fun b6 b7 b8 e6 e7 => br_f (by decide) (br_f (by decide) ?_))
  unfold wL_lawOf_226
  refine br_t rfl (br_f (by decide) ?_)
  by_cases n0 : x2 = 0
  · refine br_t n0 ?_
    unfold wL_lawOf_245 wL_lawOf_250
    refine ca_adv_p (Or.inl n0) e6 e7 (fun b9 b10 b11 b12 b13 b14 hG => br_t n0 ?_)
    unfold wL_lawOf_271
    exact br_f (by decide) (HH _ _ _ _ _ _ _ _ _ hG (Or.inl n0))
  · by_cases n1 : x2 = 1
    · refine br_f n0 (br_t n1 ?_)
      unfold wL_lawOf_245 wL_lawOf_250
      refine ca_adv_p (Or.inr n1) e6 e7 (fun b9 b10 b11 b12 b13 b14 hG => br_f n0 (br_t n1 ?_))
      unfold wL_lawOf_271
      exact br_f (by decide) (HH _ _ _ _ _ _ _ _ _ hG (Or.inr n1))
    · refine br_f n0 (br_f n1 ?_)
      unfold wL_lawOf_249 wL_lawOf_250
      exact ca_adv_t n0 n1 (br_f n0 (br_f n1 (ca_282_0 hp)))
/-- what the law works out of kind and argument: the kinds that can be put -/
theorem ca_118_lo {post : Int32 → St0 → Prop} {mc ms kc ks : Nat} {kk aa x2 x7 x8 x9 hi f0 f1 f2 f3 f4 : Int32} {a1 a2 a3 a4 a5 a6 a7 a8 a9 a10 a11 a12 a13 a14 a15 a16 a17 : Nat → Int32} {a18 : Nat → Int64} {a19 : Nat → Int32} (h0 : ¬ kk < 0) (h1 : ¬ 13 < kk) (h5 : kk ≤ 5) (h9 : ¬ kk = 9) (h6 : ¬ 6 ≤ kk)
    (HO : (aa < 0 ∨ hi < aa) → wL_lawOf_197 post mc ms kk aa x2 x7 x8 x9 0 0 kc ks f0 f1 f2 f3 f4 a1 a2 a3 a4 a5 a6 a7 a8 a9 a10 a11 a12 a13 a14 a15 a16 a17 a18 a19)
    (HI : ¬ aa < 0 → ¬ hi < aa → wL_lawOf_197 post mc ms kk aa x2 x7 x8 x9 1 1 kc ks f0 f1 f2 f3 f4 a1 a2 a3 a4 a5 a6 a7 a8 a9 a10 a11 a12 a13 a14 a15 a16 a17 a18 a19) :
    wL_lawOf_118 post mc ms kk aa x2 x7 x8 x9 hi kc ks f0 f1 f2 f3 f4 a1 a2 a3 a4 a5 a6 a7 a8 a9 a10 a11 a12 a13 a14 a15 a16 a17 a18 a19 := by
  unfold wL_lawOf_118
  refine br_f h0 (br_f h1 ?_)
  unfold wL_lawOf_135
  refine br_f (by decide) (br_t h5 ?_)
  unfold wL_lawOf_153
  refine br_f h9 ?_
  unfold wL_lawOf_165
  refine br_c (fun e => ?_) (fun n => br_c (fun e => ?_) (fun m => ?_))
  · unfold wL_lawOf_178 wL_lawOf_179 wL_lawOf_196
    exact br_t rfl (HO (Or.inl e))
  · unfold wL_lawOf_178 wL_lawOf_179 wL_lawOf_196
    exact br_t rfl (HO (Or.inr e))
  · unfold wL_lawOf_174 wL_lawOf_179
    exact br_f (by decide) (br_f h6 (HI n m))
theorem ca_118_9 {post : Int32 → St0 → Prop} (hp : post 1 ()) {mc ms kc ks : Nat} {aa x2 x7 x8 x9 : Int32} {a1 a2 a3 a4 a5 a6 a7 a8 a9 a10 a11 a12 a13 a14 a15 a16 a17 : Nat → Int32} {a18 : Nat → Int64} {a19 : Nat → Int32} :
    wL_lawOf_118 post mc ms 9 aa x2 x7 x8 x9 5 kc ks 0 0 0 0 0 a1 a2 a3 a4 a5 a6 a7 a8 a9 a10 a11 a12 a13 a14 a15 a16 a17 a18 a19 := by
  unfold wL_lawOf_118
  refine br_f (by decide) (br_f (by decide) ?_)
  unfold wL_lawOf_135
  refine br_f (by decide) (br_f (by decide) (br_t rfl ?_))
  unfold wL_lawOf_153
  refine br_t rfl ?_
  unfold wL_lawOf_165
  refine br_c (fun e => ?_) (fun n => br_c (fun e => ?_) (fun m => ?_))
  · unfold wL_lawOf_178 wL_lawOf_179 wL_lawOf_196
    exact br_t rfl (ca_197_out hp (Or.inr (Or.inr (ca_ft9_n (Or.inl e)))))
  · unfold wL_lawOf_178 wL_lawOf_179 wL_lawOf_196
    exact br_t rfl (ca_197_out hp (Or.inr (Or.inr (ca_ft9_n (Or.inr e)))))
  · unfold wL_lawOf_174 wL_lawOf_179 wL_lawOf_196
    exact br_f (by decide) (br_t (by decide) (ca_197_3 hp (by decide) (by decide) (by decide) (ca_ft9_r n m)))
theorem ca_big {kk : Int32} (h : ¬ kk < 0) (h0 : ¬ kk = 0) (h1 : ¬ kk = 1) (h2 : ¬ kk = 2) (h3 : ¬ kk = 3) (h4 : ¬ kk = 4) (h5 : ¬ kk = 5) : ¬ kk ≤ 5 ∧ 5 < kk ∧ 6 ≤ kk := by
  obtain ⟨j, hj, rfl⟩ := nI_of h
  have g0 : j ≠ 0 := fun z => h0 (by rw [z]; rfl)
  have g1 : j ≠ 1 := fun z => h1 (by rw [z]; rfl)
  have g2 : j ≠ 2 := fun z => h2 (by rw [z]; rfl)
  have g3 : j ≠ 3 := fun z => h3 (by rw [z]; rfl)
  have g4 : j ≠ 4 := fun z => h4 (by rw [z]; rfl)
  have g5 : j ≠ 5 := fun z => h5 (by rw [z]; rfl)
  exact ⟨nI_ge (a := 5) (b := j) (by omega) hj, nI_lt (a := 5) (b := j) (by omega) hj, nI_le (a := 6) (b := j) (by omega) hj⟩
theorem ca_118_x {post : Int32 → St0 → Prop} (hp : post 1 ()) {mc ms kc ks : Nat} {kk aa x2 x7 x8 x9 hi : Int32} {a1 a2 a3 a4 a5 a6 a7 a8 a9 a10 a11 a12 a13 a14 a15 a16 a17 : Nat → Int32} {a18 : Nat → Int64} {a19 : Nat → Int32} (h0 : ¬ kk = 0) (h1 : ¬ kk = 1) (h2 : ¬ kk = 2) (h3 : ¬ kk = 3) (h4 : ¬ kk = 4) (h5 : ¬ kk = 5) (h9 : ¬ kk = 9) :
    wL_lawOf_118 post mc ms kk aa x2 x7 x8 x9 hi kc ks 0 0 0 0 0 a1 a2 a3 a4 a5 a6 a7 a8 a9 a10 a11 a12 a13 a14 a15 a16 a17 a18 a19 := by
  unfold wL_lawOf_118
  refine br_c (fun e => ?_) (fun n => br_c (fun e => ?_) (fun m => ?_))
  · unfold wL_lawOf_134 wL_lawOf_135
    refine br_t rfl ?_
    unfold wL_lawOf_178 wL_lawOf_179 wL_lawOf_196
    exact br_t rfl (ca_197_out hp (Or.inl e))
  · unfold wL_lawOf_134 wL_lawOf_135
    refine br_t rfl ?_
    unfold wL_lawOf_178 wL_lawOf_179 wL_lawOf_196
    exact br_t rfl (ca_197_out hp (Or.inr (Or.inl e)))
  · obtain ⟨b1, b2, b3⟩ := ca_big n h0 h1 h2 h3 h4 h5
    unfold wL_lawOf_135
    refine br_f (by decide) (br_f b1 (br_f h9 ?_))
    unfold wL_lawOf_174 wL_lawOf_179 wL_lawOf_196
    exact br_f (by decide) (br_t b3 (ca_197_3 hp n m b2 (ca_ftx h0 h1 h2 h3 h4 h5 h9)))
end
section
/-- what derive and define left -/
def ca_F (c n g : Nat) (a2 a3 a4 a5 : Nat → Int32) : Prop := c < 8 ∧ a2 c = ca_K c c ∧ a3 9 = nI c ∧ a4 9 = nI n ∧ a5 9 = nI g
theorem ca_k0 {post : Int32 → St0 → Prop} (hp : post 1 ()) {mc ms kc ks c n g : Nat} {aa x2 : Int32} {a1 a2 a3 a4 a5 a6 a7 a8 a9 a10 a11 a12 a13 a14 a15 a16 a17 : Nat → Int32} {a18 : Nat → Int64} {a19 : Nat → Int32} (hF : ca_F c n g a2 a3 a4 a5) :
    wL_lawOf_118 post mc ms 0 aa x2 (nI c) (nI n) (nI g) 9 kc ks 0 0 0 0 0 a1 a2 a3 a4 a5 a6 a7 a8 a9 a10 a11 a12 a13 a14 a15 a16 a17 a18 a19 := by
  obtain ⟨hc, f2, f3, f4, f5⟩ := hF
  refine ca_118_lo (by decide) (by decide) (by decide) (by decide) (by decide) (fun e => ca_197_out hp (Or.inr (Or.inr (ca_ft0_n e)))) (fun r0 r1 => ca_197_put hp (by decide) (by decide) (by decide) (ca_ft0_r r0 r1) ?_)
  intro b6 b7 b8 b9 b10 b11 b12 b13 b14 hG hx
  unfold wL_lawOf_282
  exact br_t rfl (br_t rfl (br_c (fun e => ca_tail1 hp hG (by decide) (ca_ph0_1 (Eq.trans f4 e.symm)) (Or.inr rfl) hx) (fun e => ca_tail1 hp hG (by decide) (ca_ph0_0 (fun z => e (Eq.trans z.symm f4))) (Or.inl rfl) hx)))
theorem ca_k1 {post : Int32 → St0 → Prop} (hp : post 1 ()) {mc ms kc ks c n g : Nat} {aa x2 : Int32} {a1 a2 a3 a4 a5 a6 a7 a8 a9 a10 a11 a12 a13 a14 a15 a16 a17 : Nat → Int32} {a18 : Nat → Int64} {a19 : Nat → Int32} (hF : ca_F c n g a2 a3 a4 a5) :
    wL_lawOf_118 post mc ms 1 aa x2 (nI c) (nI n) (nI g) 7 kc ks 0 0 0 0 0 a1 a2 a3 a4 a5 a6 a7 a8 a9 a10 a11 a12 a13 a14 a15 a16 a17 a18 a19 := by
  obtain ⟨hc, f2, f3, f4, f5⟩ := hF
  refine ca_118_lo (by decide) (by decide) (by decide) (by decide) (by decide) (fun e => ca_197_out hp (Or.inr (Or.inr (ca_ft1_n e)))) (fun r0 r1 => ca_197_put hp (by decide) (by decide) (by decide) (ca_ft1_r r0 r1) ?_)
  intro b6 b7 b8 b9 b10 b11 b12 b13 b14 hG hx
  unfold wL_lawOf_282
  exact br_t rfl (br_f (by decide) (br_t rfl (br_c (fun e => ca_tail1 hp hG (by decide) (ca_ph1_1 (Eq.trans f3 e.symm)) (Or.inr rfl) hx) (fun e => ca_tail1 hp hG (by decide) (ca_ph1_0 (fun z => e (Eq.trans z.symm f3))) (Or.inl rfl) hx))))
theorem ca_k2 {post : Int32 → St0 → Prop} (hp : post 1 ()) {mc ms kc ks c n g : Nat} {aa x2 : Int32} {a1 a2 a3 a4 a5 a6 a7 a8 a9 a10 a11 a12 a13 a14 a15 a16 a17 : Nat → Int32} {a18 : Nat → Int64} {a19 : Nat → Int32} (hF : ca_F c n g a2 a3 a4 a5) :
    wL_lawOf_118 post mc ms 2 aa x2 (nI c) (nI n) (nI g) 7 kc ks 0 0 0 0 0 a1 a2 a3 a4 a5 a6 a7 a8 a9 a10 a11 a12 a13 a14 a15 a16 a17 a18 a19 := by
  obtain ⟨hc, f2, f3, f4, f5⟩ := hF
  refine ca_118_lo (by decide) (by decide) (by decide) (by decide) (by decide) (fun e => ca_197_out hp (Or.inr (Or.inr (ca_ft2_n e)))) (fun r0 r1 => ca_197_put hp (by decide) (by decide) (by decide) (ca_ft2_r r0 r1) ?_)
  intro b6 b7 b8 b9 b10 b11 b12 b13 b14 hG hx
  have K : ((((a2 c) >>> (aa &&& 31)) &&& 1) = 1 ↔ (aa = nI c ∨ aa = nI c - 1)) := by
    obtain ⟨j, hj, e⟩ := nI_of2 (M := 7) (n := 7) (by decide) r0 (Int32.not_lt.mp r1)
    rw [f2, e]
    exact ca_K_bit c hc j (by omega)
  unfold wL_lawOf_282
  refine br_t rfl (br_f (by decide) (br_f (by decide) (br_t rfl (br_c (fun e => ?_) (fun e => br_c (fun e' => ?_) (fun e' => ?_))))))
  · unfold wL_lawOf_343
    exact ca_tail1 hp hG (by decide) (ca_ph2_1 hc f3 (K.mpr (Or.inl e))) (Or.inr rfl) hx
  · unfold wL_lawOf_343
    exact ca_tail1 hp hG (by decide) (ca_ph2_1 hc f3 (K.mpr (Or.inr e'))) (Or.inr rfl) hx
  · exact ca_tail1 hp hG (by decide) (ca_ph2_0 hc f3 (fun z => (K.mp z).elim e e')) (Or.inl rfl) hx
theorem ca_k3 {post : Int32 → St0 → Prop} (hp : post 1 ()) {mc ms kc ks c n g : Nat} {aa x2 : Int32} {a1 a2 a3 a4 a5 a6 a7 a8 a9 a10 a11 a12 a13 a14 a15 a16 a17 : Nat → Int32} {a18 : Nat → Int64} {a19 : Nat → Int32} (hF : ca_F c n g a2 a3 a4 a5) :
    wL_lawOf_118 post mc ms 3 aa x2 (nI c) (nI n) (nI g) 3 kc ks 0 0 0 0 0 a1 a2 a3 a4 a5 a6 a7 a8 a9 a10 a11 a12 a13 a14 a15 a16 a17 a18 a19 := by
  obtain ⟨hc, f2, f3, f4, f5⟩ := hF
  refine ca_118_lo (by decide) (by decide) (by decide) (by decide) (by decide) (fun e => ca_197_out hp (Or.inr (Or.inr (ca_ft3_n e)))) (fun r0 r1 => ca_197_put hp (by decide) (by decide) (by decide) (ca_ft3_r r0 r1) ?_)
  intro b6 b7 b8 b9 b10 b11 b12 b13 b14 hG hx
  unfold wL_lawOf_282
  exact br_t rfl (br_f (by decide) (br_f (by decide) (br_f (by decide) (br_t rfl (br_c (fun e => ca_tail1 hp hG (by decide) (ca_ph3_1 (by rw [f5]; exact e)) (Or.inr rfl) hx) (fun e => ca_tail1 hp hG (by decide) (ca_ph3_0 (by rw [f5]; exact e)) (Or.inl rfl) hx))))))
theorem ca_k4 {post : Int32 → St0 → Prop} (hp : post 1 ()) {mc ms kc ks c n g : Nat} {aa x2 : Int32} {a1 a2 a3 a4 a5 a6 a7 a8 a9 a10 a11 a12 a13 a14 a15 a16 a17 : Nat → Int32} {a18 : Nat → Int64} {a19 : Nat → Int32} (hF : ca_F c n g a2 a3 a4 a5) :
    wL_lawOf_118 post mc ms 4 aa x2 (nI c) (nI n) (nI g) 7 kc ks 0 0 0 0 0 a1 a2 a3 a4 a5 a6 a7 a8 a9 a10 a11 a12 a13 a14 a15 a16 a17 a18 a19 := by
  obtain ⟨hc, f2, f3, f4, f5⟩ := hF
  refine ca_118_lo (by decide) (by decide) (by decide) (by decide) (by decide) (fun e => ca_197_out hp (Or.inr (Or.inr (ca_ft4_n e)))) (fun r0 r1 => ca_197_put hp (by decide) (by decide) (by decide) (ca_ft4_r r0 r1) ?_)
  intro b6 b7 b8 b9 b10 b11 b12 b13 b14 hG hx
  unfold wL_lawOf_282
  refine br_t rfl (br_f (by decide) (br_f (by decide) (br_f (by decide) (br_f (by decide) (br_f (by decide) ?_)))))
  unfold wL_lawOf_387
  exact ca_tail1 hp hG (by decide) ca_ph4 (Or.inl rfl) hx
theorem ca_k5 {post : Int32 → St0 → Prop} (hp : post 1 ()) {mc ms kc ks c n g : Nat} {aa x2 : Int32} {a1 a2 a3 a4 a5 a6 a7 a8 a9 a10 a11 a12 a13 a14 a15 a16 a17 : Nat → Int32} {a18 : Nat → Int64} {a19 : Nat → Int32} (hF : ca_F c n g a2 a3 a4 a5) :
    wL_lawOf_118 post mc ms 5 aa x2 (nI c) (nI n) (nI g) 20 kc ks 0 0 0 0 0 a1 a2 a3 a4 a5 a6 a7 a8 a9 a10 a11 a12 a13 a14 a15 a16 a17 a18 a19 := by
  obtain ⟨hc, f2, f3, f4, f5⟩ := hF
  refine ca_118_lo (by decide) (by decide) (by decide) (by decide) (by decide) (fun e => ca_197_out hp (Or.inr (Or.inr (ca_ft5_n e)))) (fun r0 r1 => ca_197_put hp (by decide) (by decide) (by decide) (ca_ft5_r r0 r1) ?_)
  intro b6 b7 b8 b9 b10 b11 b12 b13 b14 hG hx
  obtain ⟨j, hj, ej⟩ := nI_of r0
  unfold wL_lawOf_282
  refine br_t rfl (br_f (by decide) (br_f (by decide) (br_f (by decide) (br_f (by decide) (br_t rfl (br_c (fun e => ?_) (fun e => ?_)))))))
  · exact ca_tail1 hp hG (by decide) (ca_ph5_1 (by rw [e]; decide)) (Or.inr rfl) hx
  · unfold wL_lawOf_387
    refine ca_tail1 hp hG (by decide) (ca_ph5_0 ?_) (Or.inl rfl) hx
    have j0 : j ≠ 0 := fun z => e (by rw [ej, z]; rfl)
    rw [ej]
    exact nI_lt (a := 0) (b := j) (by omega) hj
end
section
theorem ca_law {post : Int32 → St0 → Prop} (hp : post 1 ()) (p0 p1 p2 p3 p4 p5 : Int32) : wpL_lawOf post 556 8896 () p0 p1 p2 p3 p4 p5 := by
  obtain ⟨c, hc, ec⟩ := pk_andE p3 (m := 7) 3 (by decide)
  obtain ⟨w, hw, ew⟩ := pk_andE p4 (m := 15) 4 (by decide)
  obtain ⟨g, hg, eg⟩ := pk_andE p5 (m := 15) 4 (by decide)
  have en : (p4 &&& 15) - (p4 &&& 15) / 10 * 10 = nI (w % 10) := by
    rw [ew]
    exact pk_rem (a := w) (d := 10) (by omega) (by omega) (by omega)
  unfold wpL_lawOf
  refine ⟨by omega, by omega, 19, 881, by omega, by omega, ca_init (by omega) (by omega) (fun b1 b2 hb => ?_)⟩
  refine nm_r ec ⟨by decide, nm_r en (nm_r eg ?_)⟩
  refine ca_derive (by omega) hb (fun r d1 d2 hd => ?_)
  refine ca_define (by omega) (by omega) (by omega) (fun r' => ?_)
  have hF : ca_F c (w % 10) g d2 (upd (fun _ => 0) 9 (nI c)) (upd (fun _ => 0) 9 (nI (w % 10))) (upd (fun _ => 0) 9 (nI g)) := ⟨by omega, hd, pk_us, pk_us, pk_us⟩
  refine br_c (fun e => ?_) (fun n0 => br_c (fun e => ?_) (fun n1 => br_c (fun e => ?_) (fun n2 => br_c (fun e => ?_) (fun n4 => br_c (fun e => ?_) (fun n3 => br_c (fun e => ?_) (fun n5 => br_c (fun e => ?_) (fun n9 => ?_)))))))
  · rw [e]
    exact ca_k0 hp hF
  · rw [e]
    exact ca_k1 hp hF
  · rw [e]
    exact ca_k2 hp hF
  · rw [e]
    exact ca_k4 hp hF
  · rw [e]
    exact ca_k3 hp hF
  · rw [e]
    exact ca_k5 hp hF
  · rw [e]
    exact ca_118_9 hp
  · exact ca_118_x hp n0 n1 n2 n3 n4 n5 n9
end
section
theorem i_vc (xs : Nat → Int32) (L : Nat) (hL : L ≤ 6) : wpL_law (fun r => r = 1) L xs := by
  unfold wpL_law
  refine ca_cell 0 hL (by omega) (fun v0 => ca_cell 1 hL (by omega) (fun v1 => ca_cell 2 hL (by omega) (fun v2 => ca_cell 3 hL (by omega) (fun v3 => ca_cell 4 hL (by omega) (fun v4 => ca_cell 5 hL (by omega) (fun v5 => ?_))))))
  exact ⟨556, 8896, by omega, by omega, ca_law rfl v0 v1 v2 v3 v4 v5⟩
end
