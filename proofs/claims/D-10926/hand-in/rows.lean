section
/-! what the methods compute, in plain functions of ints -/
def uo_dA (t rf : Int32) : Int32 := if (t &&& (rf ^^^ (-1))) = 0 then 0 else 1
def uo_dC (t ch rf : Int32) : Int32 := if (t &&& (rf ^^^ (-1))) = 0 then ch else if ((t &&& (rf ^^^ (-1))) &&& ch) = 0 then (if ((t &&& (rf ^^^ (-1))) &&& ((t &&& (rf ^^^ (-1))) - 1)) = 0 then ch ||| (t &&& (rf ^^^ (-1))) else ch) else ch
def uo_rf (un rf t : Int32) (i : Nat) : Int32 := if ((un >>> (nI i &&& 31)) &&& 1) = 0 then rf else rf ||| t
def uo_pn (wn un : Int32) (sh : Nat → Int32) : Nat → Nat → Int32 → Int32 → Int32 × Int32 × Int32
  | 0, _, ch, rf => (if (ch &&& rf) = 0 then 1 else 0, ch, rf)
  | k + 1, i, ch, rf => if ((wn >>> (nI i &&& 31)) &&& 1) = 0 then uo_pn wn un sh k (i + 1) ch (uo_rf un rf (sh i) i)
    else if uo_dA (sh i) (uo_rf un rf (sh i) i) = 0 then (0, uo_dC (sh i) ch (uo_rf un rf (sh i) i), uo_rf un rf (sh i) i)
    else uo_pn wn un sh k (i + 1) (uo_dC (sh i) ch (uo_rf un rf (sh i) i)) (uo_rf un rf (sh i) i)
def uo_pr (wn un : Int32) (sh : Nat → Int32) : Nat → Int32 → Int32 → Int32 → Int32 × Int32 × Int32
  | 0, _, ch, rf => (1, ch, rf)
  | k + 1, x, ch, rf => if x = (ch ||| (rf <<< ((10 : Int32) &&& 31))) then (1, ch, rf)
    else if (uo_pn wn un sh 5 0 ch rf).1 = 0 then (0, (uo_pn wn un sh 5 0 ch rf).2.1, (uo_pn wn un sh 5 0 ch rf).2.2)
    else uo_pr wn un sh k (ch ||| (rf <<< ((10 : Int32) &&& 31))) (uo_pn wn un sh 5 0 ch rf).2.1 (uo_pn wn un sh 5 0 ch rf).2.2
def uo_l10 (mv : Int32) : Nat → Nat → Int32 → Int32
  | 0, _, a => a
  | k + 1, i, a => uo_l10 mv k (i + 1) (a + ((mv >>> (nI i &&& 31)) &&& 1))
def uo_lo (ins rf t l : Int32) : Int32 := if (t &&& ins) = 0 then l else if (t &&& (rf ^^^ (-1))) = 0 then l + 1 else l
def uo_be (ch rf t nw b : Int32) : Int32 := if (t &&& ch) = 0 then b else if ((rf >>> (nw &&& 31)) &&& 1) = 0 then b else b + 1
def uo_l5 (ins ch rf : Int32) (sh nw : Nat → Int32) : Nat → Nat → Int32 → Int32 → Int32
  | 0, _, l, b => ((l <<< ((8 : Int32) &&& 31)) ||| ((uo_l10 ((ch &&& (ins ^^^ (-1))) ||| (rf &&& ins)) 10 0 0) <<< ((4 : Int32) &&& 31))) ||| b
  | k + 1, i, l, b => uo_l5 ins ch rf sh nw k (i + 1) (uo_lo ins rf (sh i) l) (uo_be ch rf (sh i) (nw i) b)
def uo_lc (ins ch rf : Int32) (sh nw : Nat → Int32) : Int32 := uo_l5 ins ch rf sh nw 5 0 0 0
def uo_ri (wn un s : Int32) (sh : Nat → Int32) : Nat → Nat → Int32
  | 0, _ => 1
  | k + 1, i => if (sh i &&& s) = 0 then (if ((wn >>> (nI i &&& 31)) &&& 1) = 0 then uo_ri wn un s sh k (i + 1) else 0)
    else (if ((un >>> (nI i &&& 31)) &&& 1) = 0 then uo_ri wn un s sh k (i + 1) else 0)
/-! the packages that neither of the two masks holds -/
def uo_op (pc ch rf : Int32) : Int32 := (((1 : Int32) <<< (pc &&& 31)) - 1) &&& ((ch ||| rf) ^^^ (-1))
def uo_fS (c ch bs bc : Int32) : Int32 := if c < bc then ch else if c = bc then (if bs ≤ ch then bs else ch) else bs
def uo_fC (c ch bs bc : Int32) : Int32 := if c < bc then c else if c = bc then (if bs ≤ ch then bc else c) else bc
theorem uo_pn_and (wn un : Int32) (sh : Nat → Int32) : ∀ (k i : Nat) (ch rf : Int32), ¬ (uo_pn wn un sh k i ch rf).1 = 0 → (uo_pn wn un sh k i ch rf).2.1 &&& (uo_pn wn un sh k i ch rf).2.2 = 0 := by
  intro k
  induction k with
  | zero =>
    intro i ch rf h
    by_cases g : (ch &&& rf) = 0
    · exact g
    · exact absurd (show (if (ch &&& rf) = 0 then (1 : Int32) else 0) = 0 from if_neg g) h
  | succ k ih =>
    intro i ch rf h
    unfold uo_pn at h ⊢
    by_cases g : ((wn >>> (nI i &&& 31)) &&& 1) = 0
    · rw [if_pos g] at h ⊢
      exact ih _ _ _ h
    · rw [if_neg g] at h ⊢
      by_cases g2 : uo_dA (sh i) (uo_rf un rf (sh i) i) = 0
      · rw [if_pos g2] at h
        exact absurd rfl h
      · rw [if_neg g2] at h ⊢
        exact ih _ _ _ h
/-! the two arrays that listNames writes: no package; one package of the name nm -/
def uo_z5 : Nat → Int32 := upd (upd (upd (upd (upd (fun _ => 0) 0 0) 1 0) 2 0) 3 0) 4 0
def uo_m5 : Nat → Int32 := upd (upd (upd (upd (upd (fun _ => 0) 0 (-1)) 1 (-1)) 2 (-1)) 3 (-1)) 4 (-1)
def uo_s1 (nm : Nat) : Nat → Int32 := upd uo_z5 nm (uo_z5 nm ||| ((1 : Int32) <<< ((0 : Int32) &&& 31)))
def uo_n1 (nm : Nat) : Nat → Int32 := upd uo_m5 nm (0 : Int32).toInt8.toInt32
def uo_bit (w : Nat) : Int32 := (0 : Int32) ||| ((1 : Int32) <<< (nI w &&& 31))
/-! the tables -/
theorem uo_t_m5 : ∀ nm, nm < 5 → uo_m5 nm < 0 := by decide +kernel
theorem uo_t_ex : ∀ nm, nm < 5 → (uo_s1 nm nm) &&& (((1 : Int32) <<< ((0 : Int32) &&& 31)) ^^^ (-1)) = 0 := by decide +kernel
theorem uo_t_b : ∀ nm, nm < 5 → (nI nm).toInt8.toInt32 = nI nm := by decide +kernel
theorem uo_t_lc : ∀ nm, nm < 5 → uo_lc 0 1 0 (uo_s1 nm) (uo_n1 nm) = 16 ∧ uo_lc 0 0 1 (uo_s1 nm) (uo_n1 nm) = 0 ∧ uo_lc 1 1 0 (uo_s1 nm) (uo_n1 nm) = 0 ∧ uo_lc 1 0 1 (uo_s1 nm) (uo_n1 nm) = 272 := by decide +kernel
theorem uo_t_lc0 : uo_lc 0 0 0 uo_z5 uo_m5 = 0 := by decide +kernel
/-! no package -/
theorem uo_t_0 : uo_ri 0 0 0 uo_z5 5 0 = 1 ∧ uo_pr 0 0 uo_z5 12 (-1) 0 0 = (1, 0, 0) := by decide +kernel
theorem uo_t_0w : ∀ w, w < 5 → uo_ri (uo_bit w) 0 0 uo_z5 5 0 = 0 ∧ (uo_pr (uo_bit w) 0 uo_z5 12 (-1) 0 0).1 = 0 := by decide +kernel
theorem uo_t_0u : ∀ w, w < 5 → uo_ri 0 (uo_bit w) 0 uo_z5 5 0 = 1 ∧ uo_pr 0 (uo_bit w) uo_z5 12 (-1) 0 0 = (1, 0, 0) := by decide +kernel
/-! one package: nothing wished; its own name wished to be there, not to be there; another name -/
theorem uo_t_1 : ∀ nm, nm < 5 → uo_ri 0 0 0 (uo_s1 nm) 5 0 = 1 ∧ uo_ri 0 0 1 (uo_s1 nm) 5 0 = 1 ∧ uo_pr 0 0 (uo_s1 nm) 12 (-1) 0 0 = (1, 0, 0) ∧ uo_pr 0 0 (uo_s1 nm) 12 (-1) 1 0 = (1, 1, 0) ∧ uo_pr 0 0 (uo_s1 nm) 12 (-1) 0 1 = (1, 0, 1) := by decide +kernel
theorem uo_t_1w : ∀ nm, nm < 5 → uo_ri (uo_bit nm) 0 0 (uo_s1 nm) 5 0 = 0 ∧ uo_ri (uo_bit nm) 0 1 (uo_s1 nm) 5 0 = 1 ∧ uo_pr (uo_bit nm) 0 (uo_s1 nm) 12 (-1) 0 0 = (1, 1, 0) := by decide +kernel
theorem uo_t_1u : ∀ nm, nm < 5 → uo_ri 0 (uo_bit nm) 0 (uo_s1 nm) 5 0 = 1 ∧ uo_ri 0 (uo_bit nm) 1 (uo_s1 nm) 5 0 = 0 ∧ uo_pr 0 (uo_bit nm) (uo_s1 nm) 12 (-1) 0 0 = (1, 0, 1) := by decide +kernel
theorem uo_t_1ow : ∀ nm, nm < 5 → ∀ w, w < 5 → ¬ w = nm → uo_ri (uo_bit w) 0 0 (uo_s1 nm) 5 0 = 0 ∧ uo_ri (uo_bit w) 0 1 (uo_s1 nm) 5 0 = 0 ∧ (uo_pr (uo_bit w) 0 (uo_s1 nm) 12 (-1) 0 0).1 = 0 := by decide +kernel
theorem uo_t_1ou1 : ∀ nm, nm < 5 → ∀ w, w < 5 → ¬ w = nm → uo_ri 0 (uo_bit w) 0 (uo_s1 nm) 5 0 = 1 ∧ uo_ri 0 (uo_bit w) 1 (uo_s1 nm) 5 0 = 1 := by decide +kernel
theorem uo_t_1ou2 : ∀ nm, nm < 5 → ∀ w, w < 5 → ¬ w = nm → uo_pr 0 (uo_bit w) (uo_s1 nm) 12 (-1) 0 0 = (1, 0, 0) := by decide +kernel
theorem uo_t_1ou3 : ∀ nm, nm < 5 → ∀ w, w < 5 → ¬ w = nm → uo_pr 0 (uo_bit w) (uo_s1 nm) 12 (-1) 1 0 = (1, 1, 0) := by decide +kernel
theorem uo_t_1ou4 : ∀ nm, nm < 5 → ∀ w, w < 5 → ¬ w = nm → uo_pr 0 (uo_bit w) (uo_s1 nm) 12 (-1) 0 1 = (1, 0, 1) := by decide +kernel
theorem uo_t_1ou (nm : Nat) (hn : nm < 5) (w : Nat) (hw : w < 5) (h : ¬ w = nm) : uo_ri 0 (uo_bit w) 0 (uo_s1 nm) 5 0 = 1 ∧ uo_ri 0 (uo_bit w) 1 (uo_s1 nm) 5 0 = 1 ∧ uo_pr 0 (uo_bit w) (uo_s1 nm) 12 (-1) 0 0 = (1, 0, 0) ∧ uo_pr 0 (uo_bit w) (uo_s1 nm) 12 (-1) 1 0 = (1, 1, 0) ∧ uo_pr 0 (uo_bit w) (uo_s1 nm) 12 (-1) 0 1 = (1, 0, 1) :=
  ⟨(uo_t_1ou1 nm hn w hw h).1, (uo_t_1ou1 nm hn w hw h).2, uo_t_1ou2 nm hn w hw h, uo_t_1ou3 nm hn w hw h, uo_t_1ou4 nm hn w hw h⟩
end
section
section
variable {pc ins wc rd wn un ch rf cn fo bs bc : Int32} {a1 a2 a3 a4 a5 a6 a7 a8 a9 a10 a11 a12 a13 a14 a15 a16 a17 a18 : Nat → Int32}
theorem uo_demand {post : Int32 → St2 → Prop} {t : Int32} (h : post (uo_dA t rf) (pc, ins, wc, rd, wn, un, uo_dC t ch rf, rf, cn, fo, bs, bc, a1, a2, a3, a4, a5, a6, a7, a8, a9, a10, a11, a12, a13, a14, a15, a16, a17, a18)) : wpX_demand post (pc, ins, wc, rd, wn, un, ch, rf, cn, fo, bs, bc, a1, a2, a3, a4, a5, a6, a7, a8, a9, a10, a11, a12, a13, a14, a15, a16, a17, a18) t := by
  unfold uo_dA uo_dC at h
  refine nm_e (br_c (fun g => ?_) (fun g => br_c (fun g2 => br_c (fun g3 => nm_e ?_) (fun g3 => ?_)) (fun g2 => ?_)))
  · rw [if_pos g, if_pos g] at h
    exact h
  · rw [if_neg g, if_neg g, if_pos g2, if_pos g3] at h
    exact h
  · rw [if_neg g, if_neg g, if_pos g2, if_neg g3] at h
    exact h
  · rw [if_neg g, if_neg g, if_neg g2] at h
    exact h
theorem uo_33 {post : Int32 → St2 → Prop} {J : Int32 → Int32 → Int32 → Int32 → Int32 → Int32 → Int32 → Int32 → Int32 → Int32 → Int32 → Int32 → Int32 → (Nat → Int32) → (Nat → Int32) → (Nat → Int32) → (Nat → Int32) → (Nat → Int32) → (Nat → Int32) → (Nat → Int32) → (Nat → Int32) → (Nat → Int32) → (Nat → Int32) → (Nat → Int32) → (Nat → Int32) → (Nat → Int32) → (Nat → Int32) → (Nat → Int32) → (Nat → Int32) → (Nat → Int32) → (Nat → Int32) → Prop} {i : Nat} (hi : i < 5)
    (h0 : ((wn >>> (nI i &&& 31)) &&& 1) = 0 → J (nI (i + 1)) pc ins wc rd wn un ch rf cn fo bs bc a1 a2 a3 a4 a5 a6 a7 a8 a9 a10 a11 a12 a13 a14 a15 a16 a17 a18)
    (h1 : ¬ ((wn >>> (nI i &&& 31)) &&& 1) = 0 → uo_dA (a13 i) rf = 0 → post 0 (pc, ins, wc, rd, wn, un, uo_dC (a13 i) ch rf, rf, cn, fo, bs, bc, a1, a2, a3, a4, a5, a6, a7, a8, a9, a10, a11, a12, a13, a14, a15, a16, a17, a18))
    (h2 : ¬ ((wn >>> (nI i &&& 31)) &&& 1) = 0 → ¬ uo_dA (a13 i) rf = 0 → J (nI (i + 1)) pc ins wc rd wn un (uo_dC (a13 i) ch rf) rf cn fo bs bc a1 a2 a3 a4 a5 a6 a7 a8 a9 a10 a11 a12 a13 a14 a15 a16 a17 a18) :
    wX_propagateNames_33 post J (nI i) pc ins wc rd wn un ch rf cn fo bs bc a1 a2 a3 a4 a5 a6 a7 a8 a9 a10 a11 a12 a13 a14 a15 a16 a17 a18 := by
  unfold wX_propagateNames_33
  refine br_c (fun g => nm_r (nI_1 i) (h0 g)) (fun g => ⟨pk_in i 5 hi, ?_⟩)
  rw [nI_clamp (show i < 2 ^ 31 by omega)]
  exact uo_demand (br_c (fun g2 => h1 g g2) (fun g2 => nm_r (nI_1 i) (h2 g g2)))
theorem uo_pn_ok {post : Int32 → St2 → Prop} : ∀ (k i : Nat) (ch rf : Int32), i + k = 5 →
    post (uo_pn wn un a13 k i ch rf).1 (pc, ins, wc, rd, wn, un, (uo_pn wn un a13 k i ch rf).2.1, (uo_pn wn un a13 k i ch rf).2.2, cn, fo, bs, bc, a1, a2, a3, a4, a5, a6, a7, a8, a9, a10, a11, a12, a13, a14, a15, a16, a17, a18) → wX_propagateNames_2 post (k + 1) (nI i) pc ins wc rd wn un ch rf cn fo bs bc a1 a2 a3 a4 a5 a6 a7 a8 a9 a10 a11 a12 a13 a14 a15 a16 a17 a18 := by
  intro k
  induction k with
  | zero =>
    intro i ch rf hi h
    have h' : post (if (ch &&& rf) = 0 then 1 else 0) (pc, ins, wc, rd, wn, un, ch, rf, cn, fo, bs, bc, a1, a2, a3, a4, a5, a6, a7, a8, a9, a10, a11, a12, a13, a14, a15, a16, a17, a18) := h
    refine pk_le 5 i (fun _ => br_c (fun g => ?_) (fun g => ?_)) (fun z => absurd z (by omega))
    · rw [if_pos g] at h'
      exact h'
    · rw [if_neg g] at h'
      exact h'
  | succ k ih =>
    intro i ch rf hi h
    have hlt : i < 5 := by omega
    have key : wX_propagateNames_33 post (wX_propagateNames_2 post (k + 1)) (nI i) pc ins wc rd wn un ch (uo_rf un rf (a13 i) i) cn fo bs bc a1 a2 a3 a4 a5 a6 a7 a8 a9 a10 a11 a12 a13 a14 a15 a16 a17 a18 := by
      unfold uo_pn at h
      refine uo_33 hlt (fun g => ?_) (fun g g2 => ?_) (fun g g2 => ?_)
      · rw [if_pos g] at h
        exact ih _ _ _ (by omega) h
      · rw [if_neg g, if_pos g2] at h
        exact h
      · rw [if_neg g, if_neg g2] at h
        exact ih _ _ _ (by omega) h
    unfold uo_rf at key
    refine pk_le 5 i (fun z => absurd z (by omega)) (fun _ => br_c (fun g => ?_) (fun g => ⟨pk_in i 5 hlt, ?_⟩))
    · rw [if_pos g] at key
      exact key
    · rw [if_neg g] at key
      exact nm_r (by rw [nI_clamp (show i < 2 ^ 31 by omega)]) key
theorem uo_names {post : Int32 → St2 → Prop} (h : post (uo_pn wn un a13 5 0 ch rf).1 (pc, ins, wc, rd, wn, un, (uo_pn wn un a13 5 0 ch rf).2.1, (uo_pn wn un a13 5 0 ch rf).2.2, cn, fo, bs, bc, a1, a2, a3, a4, a5, a6, a7, a8, a9, a10, a11, a12, a13, a14, a15, a16, a17, a18)) : wpX_propagateNames post (pc, ins, wc, rd, wn, un, ch, rf, cn, fo, bs, bc, a1, a2, a3, a4, a5, a6, a7, a8, a9, a10, a11, a12, a13, a14, a15, a16, a17, a18) :=
  ⟨6, uo_pn_ok 5 0 ch rf rfl h⟩
theorem uo_38 {post : Int32 → St2 → Prop} {x2 : Int32} (h4 : a4 0 = 0) (h0 : ch &&& rf = 0) (h : post 1 (pc, ins, wc, rd, wn, un, ch, rf, cn, fo, bs, bc, a1, a2, a3, a4, a5, a6, a7, a8, a9, a10, a11, a12, a13, a14, a15, a16, a17, a18)) : wX_propagatePackage_38 post 0 x2 1 0 pc ins wc rd wn un ch rf cn fo bs bc a1 a2 a3 a4 a5 a6 a7 a8 a9 a10 a11 a12 a13 a14 a15 a16 a17 a18 :=
  ⟨pk_in 0 10 (by decide), br_t (by rw [sb_cl0, h4]; decide) (br_t h0 h)⟩
theorem uo_package {post : Int32 → St2 → Prop} (h4 : a4 0 = 0) (h12 : a12 0 = 0) (h0 : ch &&& rf = 0) (h : post 1 (pc, ins, wc, rd, wn, un, ch, rf, cn, fo, bs, bc, a1, a2, a3, a4, a5, a6, a7, a8, a9, a10, a11, a12, a13, a14, a15, a16, a17, a18)) : wpX_propagatePackage post (pc, ins, wc, rd, wn, un, ch, rf, cn, fo, bs, bc, a1, a2, a3, a4, a5, a6, a7, a8, a9, a10, a11, a12, a13, a14, a15, a16, a17, a18) 0 :=
  br_c (fun _ => br_t rfl ⟨1, uo_38 h4 h0 h⟩) (fun _ => br_f (by decide) ⟨pk_in 0 10 (by decide), nm_r (e' := rf) (by rw [sb_cl0, h12]; exact Int32.or_zero) ⟨1, uo_38 h4 h0 h⟩⟩)
theorem uo_50 {post : Int32 → St2 → Prop} {J : Int32 → Int32 → Int32 → Int32 → Int32 → Int32 → Int32 → Int32 → Int32 → Int32 → Int32 → Int32 → Int32 → Int32 → (Nat → Int32) → (Nat → Int32) → (Nat → Int32) → (Nat → Int32) → (Nat → Int32) → (Nat → Int32) → (Nat → Int32) → (Nat → Int32) → (Nat → Int32) → (Nat → Int32) → (Nat → Int32) → (Nat → Int32) → (Nat → Int32) → (Nat → Int32) → (Nat → Int32) → (Nat → Int32) → (Nat → Int32) → (Nat → Int32) → Prop} {x1 : Int32} {j : Nat} (hp : pc = 0 ∨ pc = 1) (h4 : a4 0 = 0) (h12 : a12 0 = 0) (h0 : ch &&& rf = 0) (h : J x1 (nI (j + 1)) pc ins wc rd wn un ch rf cn fo bs bc a1 a2 a3 a4 a5 a6 a7 a8 a9 a10 a11 a12 a13 a14 a15 a16 a17 a18) :
    ∃ fu, wX_propagate_50 post J x1 (nI j) fu 0 pc ins wc rd wn un ch rf cn fo bs bc a1 a2 a3 a4 a5 a6 a7 a8 a9 a10 a11 a12 a13 a14 a15 a16 a17 a18 := by
  rcases hp with rfl | rfl
  · exact ⟨1, br_t (by decide) (nm_r (nI_1 j) h)⟩
  · exact ⟨2, br_f (by decide) (uo_package h4 h12 h0 (br_f (by decide) (nm_r (e' := (1 : Int32)) (by decide) (br_t (by decide) (nm_r (nI_1 j) h)))))⟩
theorem uo_pr_ok {post : Int32 → St2 → Prop} (hp : pc = 0 ∨ pc = 1) (h4 : a4 0 = 0) (h12 : a12 0 = 0) : ∀ (k j : Nat) (x ch rf : Int32), j + k = 12 →
    post (uo_pr wn un a13 k x ch rf).1 (pc, ins, wc, rd, wn, un, (uo_pr wn un a13 k x ch rf).2.1, (uo_pr wn un a13 k x ch rf).2.2, cn, fo, bs, bc, a1, a2, a3, a4, a5, a6, a7, a8, a9, a10, a11, a12, a13, a14, a15, a16, a17, a18) → wX_propagate_4 post (k + 1) x (nI j) pc ins wc rd wn un ch rf cn fo bs bc a1 a2 a3 a4 a5 a6 a7 a8 a9 a10 a11 a12 a13 a14 a15 a16 a17 a18 := by
  intro k
  induction k with
  | zero =>
    intro j x ch rf hj h
    exact pk_le 12 j (fun _ => h) (fun z => absurd z (by omega))
  | succ k ih =>
    intro j x ch rf hj h
    unfold uo_pr at h
    refine pk_le 12 j (fun z => absurd z (by omega)) (fun _ => br_c (fun g => ?_) (fun g => nm_e (uo_names (br_c (fun g2 => ?_) (fun g2 => ?_)))))
    · rw [if_pos g] at h
      exact h
    · rw [if_neg g, if_pos g2] at h
      exact h
    · rw [if_neg g, if_neg g2] at h
      exact uo_50 hp h4 h12 (uo_pn_and _ _ _ _ _ _ _ g2) (ih _ _ _ _ (by omega) h)
theorem uo_propagate {post : Int32 → St2 → Prop} (hp : pc = 0 ∨ pc = 1) (h4 : a4 0 = 0) (h12 : a12 0 = 0)
    (h : post (uo_pr wn un a13 12 (-1) ch rf).1 (pc, ins, wc, rd, wn, un, (uo_pr wn un a13 12 (-1) ch rf).2.1, (uo_pr wn un a13 12 (-1) ch rf).2.2, cn, fo, bs, bc, a1, a2, a3, a4, a5, a6, a7, a8, a9, a10, a11, a12, a13, a14, a15, a16, a17, a18)) : wpX_propagate post (pc, ins, wc, rd, wn, un, ch, rf, cn, fo, bs, bc, a1, a2, a3, a4, a5, a6, a7, a8, a9, a10, a11, a12, a13, a14, a15, a16, a17, a18) :=
  ⟨13, uo_pr_ok hp h4 h12 12 0 (-1) ch rf rfl h⟩
theorem uo_107 {post : Int32 → Prop} {x1 x2 x3 : Int32} : ∀ (k i : Nat) (a : Int32), i + k = 10 → post (((x1 <<< ((8 : Int32) &&& 31)) ||| ((uo_l10 x3 k i a) <<< ((4 : Int32) &&& 31))) ||| x2) → wX_lowestCost_107 post x1 x2 x3 pc ins wc rd wn un ch rf cn fo bs bc a1 a2 a3 a4 a5 a6 a7 a8 a9 a10 a11 a12 a13 a14 a15 a16 a17 a18 (k + 1) a (nI i) := by
  intro k
  induction k with
  | zero =>
    intro i a hi h
    exact pk_le 10 i (fun _ => h) (fun z => absurd z (by omega))
  | succ k ih =>
    intro i a hi h
    exact pk_le 10 i (fun z => absurd z (by omega)) (fun _ => nm_e (nm_r (nI_1 i) (ih _ _ (by omega) h)))
theorem uo_44 {post : Int32 → Prop} {J : Int32 → Int32 → Int32 → Prop} {x1 x2 x4 : Int32} {i : Nat} (hi : i < 5) (h : J x1 (uo_be ch rf x4 (a14 i) x2) (nI (i + 1))) : wX_lowestCost_44 post J x1 x2 (nI i) x4 pc ins wc rd wn un ch rf cn fo bs bc a1 a2 a3 a4 a5 a6 a7 a8 a9 a10 a11 a12 a13 a14 a15 a16 a17 a18 := by
  unfold uo_be at h
  unfold wX_lowestCost_44
  rw [nI_clamp (show i < 2 ^ 31 by omega)]
  refine br_c (fun g => nm_r (nI_1 i) ?_) (fun g => ⟨pk_in i 5 hi, br_c (fun g2 => nm_r (nI_1 i) ?_) (fun g2 => nm_e (nm_r (nI_1 i) ?_))⟩)
  · rw [if_pos g] at h
    exact h
  · rw [if_neg g, if_pos g2] at h
    exact h
  · rw [if_neg g, if_neg g2] at h
    exact h
theorem uo_l6 {post : Int32 → Prop} : ∀ (k i : Nat) (l b : Int32), i + k = 5 → post (uo_l5 ins ch rf a13 a14 k i l b) → wX_lowestCost_6 post pc ins wc rd wn un ch rf cn fo bs bc a1 a2 a3 a4 a5 a6 a7 a8 a9 a10 a11 a12 a13 a14 a15 a16 a17 a18 (k + 1) l b (nI i) := by
  intro k
  induction k with
  | zero =>
    intro i l b hi h
    exact pk_le 5 i (fun _ => nm_e ⟨11, uo_107 10 0 0 rfl h⟩) (fun z => absurd z (by omega))
  | succ k ih =>
    intro i l b hi h
    have hlt : i < 5 := by omega
    have key : wX_lowestCost_6 post pc ins wc rd wn un ch rf cn fo bs bc a1 a2 a3 a4 a5 a6 a7 a8 a9 a10 a11 a12 a13 a14 a15 a16 a17 a18 (k + 1) (uo_lo ins rf (a13 i) l) (uo_be ch rf (a13 i) (a14 i) b) (nI (i + 1)) := ih _ _ _ (by omega) h
    unfold uo_lo at key
    refine pk_le 5 i (fun z => absurd z (by omega)) (fun _ => ⟨pk_in i 5 hlt, nm_r (e' := a13 i) (by rw [nI_clamp (show i < 2 ^ 31 by omega)]) (br_c (fun g => uo_44 hlt ?_) (fun g => br_c (fun g2 => nm_e (uo_44 hlt ?_)) (fun g2 => uo_44 hlt ?_)))⟩)
    · rw [if_pos g] at key
      exact key
    · rw [if_neg g, if_pos g2] at key
      exact key
    · rw [if_neg g, if_neg g2] at key
      exact key
theorem uo_lowest {post : Int32 → Prop} (h : post (uo_lc ins ch rf a13 a14)) : wpX_lowestCost post (pc, ins, wc, rd, wn, un, ch, rf, cn, fo, bs, bc, a1, a2, a3, a4, a5, a6, a7, a8, a9, a10, a11, a12, a13, a14, a15, a16, a17, a18) := ⟨6, uo_l6 5 0 0 0 rfl h⟩
theorem uo_finish {post : St2 → Prop} (h : post (pc, ins, wc, rd, wn, un, ch, rf, cn, fo + 1, uo_fS (uo_lc ins ch rf a13 a14) ch bs bc, uo_fC (uo_lc ins ch rf a13 a14) ch bs bc, a1, a2, a3, a4, a5, a6, a7, a8, a9, a10, a11, a12, a13, a14, a15, a16, a17, a18)) : wpX_finish post (pc, ins, wc, rd, wn, un, ch, rf, cn, fo, bs, bc, a1, a2, a3, a4, a5, a6, a7, a8, a9, a10, a11, a12, a13, a14, a15, a16, a17, a18) := by
  unfold uo_fS uo_fC at h
  refine nm_e (uo_lowest (br_c (fun g => ?_) (fun g => br_c (fun g2 => br_c (fun g3 => ?_) (fun g3 => ?_)) (fun g2 => ?_))))
  · rw [if_pos g, if_pos g] at h
    exact h
  · rw [if_neg g, if_neg g, if_pos g2, if_pos g2, if_pos g3, if_pos g3] at h
    exact h
  · rw [if_neg g, if_neg g, if_pos g2, if_pos g2, if_neg g3, if_neg g3] at h
    exact h
  · rw [if_neg g, if_neg g, if_neg g2, if_neg g2] at h
    exact h
theorem uo_br0 {post : Int32 → St2 → Prop} {d : Int32} (ho : uo_op pc ch rf = 0) (h : post d (pc, ins, wc, rd, wn, un, ch, rf, cn, fo + 1, uo_fS (uo_lc ins ch rf a13 a14) ch bs bc, uo_fC (uo_lc ins ch rf a13 a14) ch bs bc, a1, a2, a3, a4, a5, a6, a7, a8, a9, a10, a11, a12, a13, a14, a15, a16, a17, a18)) : wpX_branch post (pc, ins, wc, rd, wn, un, ch, rf, cn, fo, bs, bc, a1, a2, a3, a4, a5, a6, a7, a8, a9, a10, a11, a12, a13, a14, a15, a16, a17, a18) d :=
  nm_r (e' := (0 : Int32)) ho (br_t rfl (uo_finish h))
theorem uo_br1 {post : Int32 → St2 → Prop} (ho : uo_op pc ch rf = 1) (h : post 0 (pc, ins, wc, rd, wn, un, ch, rf, cn, fo, bs, bc, a1, a2, a3, a4, a5, a6, a7, a8, a9, a10, a11, a12, a13, a14, upd a15 0 ch, upd a16 0 rf, upd a17 0 0, upd a18 0 0)) : wpX_branch post (pc, ins, wc, rd, wn, un, ch, rf, cn, fo, bs, bc, a1, a2, a3, a4, a5, a6, a7, a8, a9, a10, a11, a12, a13, a14, a15, a16, a17, a18) (-1) := by
  refine nm_r (e' := (1 : Int32)) ho (br_f (by decide) ⟨1, br_f (by decide) (br_f (by decide) (nm_r (e' := (0 : Int32)) (by decide) ⟨pk_in 0 11 (by decide), nm_r (e' := upd a17 0 0) ?_ ⟨pk_in 0 11 (by decide), nm_r (e' := upd a18 0 0) ?_ ⟨pk_in 0 11 (by decide), nm_r (e' := upd a15 0 ch) ?_ ⟨pk_in 0 11 (by decide), nm_r (e' := upd a16 0 rf) ?_ h⟩⟩⟩⟩))⟩)
  · rw [sb_cl0, show (0 : Int32).toInt8.toInt32 = 0 by decide]
  · rw [sb_cl0]
  · rw [sb_cl0]
  · rw [sb_cl0]
end
end
section
section
variable {pc ins wc rd wn un ch rf cn fo bs bc : Int32} {a1 a2 a3 a4 a5 a6 a7 a8 a9 a10 a11 a12 a13 a14 a15 a16 a17 a18 : Nat → Int32}
/-! the search's loop at depth -1 and 0 -/
theorem uo_54_out {post : St2 → Prop} {n j : Nat} (hj : j < 4096) (h : post (pc, ins, wc, rd, wn, un, ch, rf, cn, fo, bs, bc, a1, a2, a3, a4, a5, a6, a7, a8, a9, a10, a11, a12, a13, a14, a15, a16, a17, a18)) : wX_search_54 post (n + 1) (-1) (nI j) pc ins wc rd wn un ch rf cn fo bs bc a1 a2 a3 a4 a5 a6 a7 a8 a9 a10 a11 a12 a13 a14 a15 a16 a17 a18 :=
  pk_le 4096 j (fun z => absurd z (by omega)) (fun _ => br_t (by decide) h)
theorem uo_54_pop {post : St2 → Prop} {n j : Nat} (hj : j < 4000) (ht : a18 0 = 2) (h : post (pc, ins, wc, rd, wn, un, ch, rf, cn, fo, bs, bc, a1, a2, a3, a4, a5, a6, a7, a8, a9, a10, a11, a12, a13, a14, a15, a16, a17, a18)) : wX_search_54 post (n + 2) 0 (nI j) pc ins wc rd wn un ch rf cn fo bs bc a1 a2 a3 a4 a5 a6 a7 a8 a9 a10 a11 a12 a13 a14 a15 a16 a17 a18 :=
  pk_le 4096 j (fun z => absurd z (by omega)) (fun _ => br_f (by decide) ⟨pk_in 0 11 (by decide), nm_r (e' := (2 : Int32)) (by rw [sb_cl0, ht]) (br_t rfl (nm_r (e' := (-1 : Int32)) (by decide) (nm_r (nI_1 j) (uo_54_out (by omega) h))))⟩)
theorem uo_54_go {post : St2 → Prop} {n j : Nat} {t : Int32} (hj : j < 4000) (ht : a18 0 = t) (ht2 : ¬ t = 2) (h15 : a15 0 = 0) (h16 : a16 0 = 0) (h17 : a17 0 = 0)
    (h : ((((ins >>> ((0 : Int32) &&& 31)) &&& 1) = 0 → wX_search_141 post (wX_search_54 post n) 0 (nI j) t 0 0 pc ins wc rd wn un 0 0 cn fo bs bc a1 a2 a3 a4 a5 a6 a7 a8 a9 a10 a11 a12 a13 a14 a15 a16 a17 (upd a18 0 ((t + 1).toInt8.toInt32))) ∧ (¬ ((ins >>> ((0 : Int32) &&& 31)) &&& 1) = 0 → wX_search_141 post (wX_search_54 post n) 0 (nI j) t 0 1 pc ins wc rd wn un 0 0 cn fo bs bc a1 a2 a3 a4 a5 a6 a7 a8 a9 a10 a11 a12 a13 a14 a15 a16 a17 (upd a18 0 ((t + 1).toInt8.toInt32))))) :
    wX_search_54 post (n + 1) 0 (nI j) pc ins wc rd wn un ch rf cn fo bs bc a1 a2 a3 a4 a5 a6 a7 a8 a9 a10 a11 a12 a13 a14 a15 a16 a17 a18 :=
  pk_le 4096 j (fun z => absurd z (by omega)) (fun _ => br_f (by decide) ⟨pk_in 0 11 (by decide), nm_r (e' := t) (by rw [sb_cl0, ht]) (br_f ht2 ⟨pk_in 0 11 (by decide), nm_r (e' := upd a18 0 ((t + 1).toInt8.toInt32)) (by rw [sb_cl0]) ⟨pk_in 0 11 (by decide), nm_r (e' := (0 : Int32)) (by rw [sb_cl0, h15]) ⟨pk_in 0 11 (by decide), nm_r (e' := (0 : Int32)) (by rw [sb_cl0, h16]) ⟨pk_in 0 11 (by decide), nm_r (e' := (0 : Int32)) (by rw [sb_cl0, h17]) h⟩⟩⟩⟩)⟩)
/-- this turn chooses the package: it is installed and this is the first try, or neither -/
theorem uo_54_take {post : St2 → Prop} {n j : Nat} {t : Int32} (hc : (ins = 0 ∧ t = 1) ∨ (ins = 1 ∧ t = 0)) (hj : j < 4000) (ht : a18 0 = t) (h15 : a15 0 = 0) (h16 : a16 0 = 0) (h17 : a17 0 = 0)
    (h : wX_search_187 post (wX_search_54 post n) 0 (nI j) pc ins wc rd wn un 1 0 cn fo bs bc a1 a2 a3 a4 a5 a6 a7 a8 a9 a10 a11 a12 a13 a14 a15 a16 a17 (upd a18 0 ((t + 1).toInt8.toInt32))) : wX_search_54 post (n + 1) 0 (nI j) pc ins wc rd wn un ch rf cn fo bs bc a1 a2 a3 a4 a5 a6 a7 a8 a9 a10 a11 a12 a13 a14 a15 a16 a17 a18 := by
  rcases hc with ⟨rfl, rfl⟩ | ⟨rfl, rfl⟩
  · exact uo_54_go hj ht (by decide) h15 h16 h17 (br_t (by decide) (br_f (by decide) (br_t rfl (nm_r (e' := (1 : Int32)) (by decide) h))))
  · exact uo_54_go hj ht (by decide) h15 h16 h17 (br_f (by decide) (br_t (by decide) (br_t rfl (nm_r (e' := (1 : Int32)) (by decide) h))))
theorem uo_54_skip {post : St2 → Prop} {n j : Nat} {t : Int32} (hc : (ins = 0 ∧ t = 0) ∨ (ins = 1 ∧ t = 1)) (hj : j < 4000) (ht : a18 0 = t) (h15 : a15 0 = 0) (h16 : a16 0 = 0) (h17 : a17 0 = 0)
    (h : wX_search_187 post (wX_search_54 post n) 0 (nI j) pc ins wc rd wn un 0 1 cn fo bs bc a1 a2 a3 a4 a5 a6 a7 a8 a9 a10 a11 a12 a13 a14 a15 a16 a17 (upd a18 0 ((t + 1).toInt8.toInt32))) : wX_search_54 post (n + 1) 0 (nI j) pc ins wc rd wn un ch rf cn fo bs bc a1 a2 a3 a4 a5 a6 a7 a8 a9 a10 a11 a12 a13 a14 a15 a16 a17 a18 := by
  rcases hc with ⟨rfl, rfl⟩ | ⟨rfl, rfl⟩
  · exact uo_54_go hj ht (by decide) h15 h16 h17 (br_t (by decide) (br_t (by decide) (br_f (by decide) (nm_r (e' := (1 : Int32)) (by decide) h))))
  · exact uo_54_go hj ht (by decide) h15 h16 h17 (br_f (by decide) (br_f (by decide) (br_f (by decide) (nm_r (e' := (1 : Int32)) (by decide) h))))
/-- the turn's rest: the decisions hold, and the set is counted or compared -/
theorem uo_187 {post : St2 → Prop} {m j : Nat} {c r : Int32} (hp : pc = 0 ∨ pc = 1) (h4 : a4 0 = 0) (h12 : a12 0 = 0) (hq : uo_pr wn un a13 12 (-1) ch rf = (1, c, r)) (ho : uo_op pc c r = 0) (hc : cn = 0 → ¬ bc < uo_lc ins c r a13 a14)
    (h : wX_search_54 post m 0 (nI (j + 1)) pc ins wc rd wn un c r cn (fo + 1) (uo_fS (uo_lc ins c r a13 a14) c bs bc) (uo_fC (uo_lc ins c r a13 a14) c bs bc) a1 a2 a3 a4 a5 a6 a7 a8 a9 a10 a11 a12 a13 a14 a15 a16 a17 a18) : wX_search_187 post (wX_search_54 post m) 0 (nI j) pc ins wc rd wn un ch rf cn fo bs bc a1 a2 a3 a4 a5 a6 a7 a8 a9 a10 a11 a12 a13 a14 a15 a16 a17 a18 := by
  refine uo_propagate hp h4 h12 ?_
  rw [hq]
  exact br_f (show ¬ (1 : Int32) = 0 by decide) (br_c (fun g => uo_lowest (br_f (hc g) (uo_br0 ho (nm_r (nI_1 j) h)))) (fun _ => uo_br0 ho (nm_r (nI_1 j) h)))
theorem uo_187_no {post : St2 → Prop} {m j : Nat} {c r : Int32} (hp : pc = 0 ∨ pc = 1) (h4 : a4 0 = 0) (h12 : a12 0 = 0) (hq : uo_pr wn un a13 12 (-1) ch rf = (1, c, r)) (h0 : cn = 0) (hc : bc < uo_lc ins c r a13 a14)
    (h : wX_search_54 post m 0 (nI (j + 1)) pc ins wc rd wn un c r cn fo bs bc a1 a2 a3 a4 a5 a6 a7 a8 a9 a10 a11 a12 a13 a14 a15 a16 a17 a18) : wX_search_187 post (wX_search_54 post m) 0 (nI j) pc ins wc rd wn un ch rf cn fo bs bc a1 a2 a3 a4 a5 a6 a7 a8 a9 a10 a11 a12 a13 a14 a15 a16 a17 a18 := by
  refine uo_propagate hp h4 h12 ?_
  rw [hq]
  exact br_f (show ¬ (1 : Int32) = 0 by decide) (br_t h0 (uo_lowest (br_t hc (nm_r (nI_1 j) h))))
end
section
variable {pc ins wc rd wn un ch rf cn fo bs bc : Int32} {a1 a2 a3 a4 a5 a6 a7 a8 a9 a10 a11 a12 a13 a14 a15 a16 a17 a18 : Nat → Int32} {sh nw : Nat → Int32} {W U : Int32}
/-- prepare, from a state whatever its last members are, comes to the masks W, U and the arrays sh, nw -/
def uo_Rdy (pc ins wc rd wn un W U : Int32) (a1 a2 a3 a4 a5 a6 a7 a8 a9 a10 a11 a12 a13 a14 sh nw : Nat → Int32) : Prop :=
  ∀ (post : St2 → Prop) (ch rf cn fo bs bc : Int32) (a15 a16 a17 a18 : Nat → Int32), (∀ b : Nat → Int32, b 0 = 0 → post (pc, ins, wc, 1, W, U, ch, rf, cn, fo, bs, bc, a1, a2, a3, a4, a5, a6, a7, a8, a9, a10, a11, b, sh, nw, a15, a16, a17, a18)) → wpX_prepare post (pc, ins, wc, rd, wn, un, ch, rf, cn, fo, bs, bc, a1, a2, a3, a4, a5, a6, a7, a8, a9, a10, a11, a12, a13, a14, a15, a16, a17, a18)
theorem uo_Rdy_1 (h12 : a12 0 = 0) : uo_Rdy pc ins wc 1 W U W U a1 a2 a3 a4 a5 a6 a7 a8 a9 a10 a11 a12 sh nw sh nw :=
  fun post ch rf cn fo bs bc a15 a16 a17 a18 h => br_f (by decide) (h a12 h12)
/-! the search, kind by kind -/
theorem uo_search {post : St2 → Prop} {p : Int32} (hR : uo_Rdy pc ins wc rd wn un W U a1 a2 a3 a4 a5 a6 a7 a8 a9 a10 a11 a12 a13 a14 sh nw) (hb : p = 0 ∨ p = 1)
    (h : ∀ b : Nat → Int32, b 0 = 0 → wpX_propagate (fun r u => match u with | (pc, ins, wc, rd, wn, un, ch, rf, cn, fo, bs, bc, a1, a2, a3, a4, a5, a6, a7, a8, a9, a10, a11, a12, a13, a14, a15, a16, a17, a18) => (((r = 0 → (∃ fu54 : Nat, wX_search_54 post fu54 (-1) 0 pc ins wc rd wn un ch rf cn fo bs bc a1 a2 a3 a4 a5 a6 a7 a8 a9 a10 a11 a12 a13 a14 a15 a16 a17 a18)) ∧ (¬ r = 0 → (wpX_branch (fun r u => match u with | (pc, ins, wc, rd, wn, un, ch, rf, cn, fo, bs, bc, a1, a2, a3, a4, a5, a6, a7, a8, a9, a10, a11, a12, a13, a14, a15, a16, a17, a18) => (∃ fu54 : Nat, wX_search_54 post fu54 r 0 pc ins wc rd wn un ch rf cn fo bs bc a1 a2 a3 a4 a5 a6 a7 a8 a9 a10 a11 a12 a13 a14 a15 a16 a17 a18)) (pc, ins, wc, rd, wn, un, ch, rf, cn, fo, bs, bc, a1, a2, a3, a4, a5, a6, a7, a8, a9, a10, a11, a12, a13, a14, a15, a16, a17, a18) (-1)))))) (pc, ins, wc, 1, W, U, 0, 0, p, 0, (-3), 4096, a1, a2, a3, a4, a5, a6, a7, a8, a9, a10, a11, b, sh, nw, a15, a16, a17, a18)) :
    wpX_search post (pc, ins, wc, rd, wn, un, ch, rf, cn, fo, bs, bc, a1, a2, a3, a4, a5, a6, a7, a8, a9, a10, a11, a12, a13, a14, a15, a16, a17, a18) p := by
  refine hR _ ch rf cn fo bs bc a15 a16 a17 a18 (fun b hb0 => ⟨?_, ?_, h b hb0⟩)
  · rcases hb with rfl | rfl <;> rfl
  · rcases hb with rfl | rfl <;> rfl
theorem uo_se_A {post : St2 → Prop} {p : Int32} (hR : uo_Rdy pc ins wc rd wn un W U a1 a2 a3 a4 a5 a6 a7 a8 a9 a10 a11 a12 a13 a14 sh nw) (hb : p = 0 ∨ p = 1) (hp : pc = 0 ∨ pc = 1) (h4 : a4 0 = 0)
    (hq : (uo_pr W U sh 12 (-1) 0 0).1 = 0)
    (H : ∀ (b : Nat → Int32) (ch rf : Int32), b 0 = 0 → post (pc, ins, wc, 1, W, U, ch, rf, p, 0, (-3), 4096, a1, a2, a3, a4, a5, a6, a7, a8, a9, a10, a11, b, sh, nw, a15, a16, a17, a18)) : wpX_search post (pc, ins, wc, rd, wn, un, ch, rf, cn, fo, bs, bc, a1, a2, a3, a4, a5, a6, a7, a8, a9, a10, a11, a12, a13, a14, a15, a16, a17, a18) p :=
  uo_search hR hb (fun b h12 => uo_propagate hp h4 h12 (br_t hq ⟨1, uo_54_out (j := 0) (by decide) (H b _ _ h12)⟩))
theorem uo_se_B {post : St2 → Prop} {p c r : Int32} (hR : uo_Rdy pc ins wc rd wn un W U a1 a2 a3 a4 a5 a6 a7 a8 a9 a10 a11 a12 a13 a14 sh nw) (hb : p = 0 ∨ p = 1) (hp : pc = 0 ∨ pc = 1) (h4 : a4 0 = 0)
    (hq : uo_pr W U sh 12 (-1) 0 0 = (1, c, r)) (ho : uo_op pc c r = 0) (hl : uo_lc ins c r sh nw < 4096)
    (H : ∀ (b : Nat → Int32) (bc : Int32), b 0 = 0 → post (pc, ins, wc, 1, W, U, c, r, p, 1, c, bc, a1, a2, a3, a4, a5, a6, a7, a8, a9, a10, a11, b, sh, nw, a15, a16, a17, a18)) : wpX_search post (pc, ins, wc, rd, wn, un, ch, rf, cn, fo, bs, bc, a1, a2, a3, a4, a5, a6, a7, a8, a9, a10, a11, a12, a13, a14, a15, a16, a17, a18) p := by
  refine uo_search hR hb (fun b h12 => uo_propagate hp h4 h12 ?_)
  rw [hq]
  refine br_f (show ¬ (1 : Int32) = 0 by decide) (uo_br0 ho ⟨1, uo_54_out (j := 0) (by decide) ?_⟩)
  have e : uo_fS (uo_lc ins c r sh nw) c (-3) 4096 = c := if_pos hl
  rw [e, show (0 : Int32) + 1 = 1 by decide]
  exact H b _ h12
/-- nothing forces the package in or out: both sets are right -/
theorem uo_se_C1 {post : St2 → Prop} (hR : uo_Rdy 1 ins wc rd wn un W U a1 a2 a3 a4 a5 a6 a7 a8 a9 a10 a11 a12 a13 a14 sh nw) (hi : ins = 0 ∨ ins = 1) (h4 : a4 0 = 0)
    (q0 : uo_pr W U sh 12 (-1) 0 0 = (1, 0, 0)) (q1 : uo_pr W U sh 12 (-1) 1 0 = (1, 1, 0)) (q2 : uo_pr W U sh 12 (-1) 0 1 = (1, 0, 1))
    (H : ∀ (b a15 a16 a17 a18 : Nat → Int32) (ch rf bs bc : Int32), b 0 = 0 → post (1, ins, wc, 1, W, U, ch, rf, 1, 2, bs, bc, a1, a2, a3, a4, a5, a6, a7, a8, a9, a10, a11, b, sh, nw, a15, a16, a17, a18)) : wpX_search post (1, ins, wc, rd, wn, un, ch, rf, cn, fo, bs, bc, a1, a2, a3, a4, a5, a6, a7, a8, a9, a10, a11, a12, a13, a14, a15, a16, a17, a18) 1 := by
  refine uo_search hR (Or.inr rfl) (fun b h12 => uo_propagate (Or.inr rfl) h4 h12 ?_)
  rw [q0]
  refine br_f (by decide) (uo_br1 (by decide) ⟨4, ?_⟩)
  rcases hi with rfl | rfl
  · refine uo_54_skip (j := 0) (t := 0) (Or.inl ⟨rfl, rfl⟩) (by decide) pk_us pk_us pk_us pk_us ?_
    refine uo_187 (Or.inr rfl) h4 h12 q2 (by decide) (fun z => absurd z (by decide)) ?_
    refine uo_54_take (t := 1) (Or.inl ⟨rfl, rfl⟩) (by decide) (by rw [pk_us]; decide) pk_us pk_us pk_us ?_
    refine uo_187 (Or.inr rfl) h4 h12 q1 (by decide) (fun z => absurd z (by decide)) ?_
    refine uo_54_pop (by decide) (by rw [pk_us]; decide) ?_
    rw [show (0 : Int32) + 1 + 1 = 2 by decide]
    exact H b _ _ _ _ _ _ _ _ h12
  · refine uo_54_take (j := 0) (t := 0) (Or.inr ⟨rfl, rfl⟩) (by decide) pk_us pk_us pk_us pk_us ?_
    refine uo_187 (Or.inr rfl) h4 h12 q1 (by decide) (fun z => absurd z (by decide)) ?_
    refine uo_54_skip (t := 1) (Or.inr ⟨rfl, rfl⟩) (by decide) (by rw [pk_us]; decide) pk_us pk_us pk_us ?_
    refine uo_187 (Or.inr rfl) h4 h12 q2 (by decide) (fun z => absurd z (by decide)) ?_
    refine uo_54_pop (by decide) (by rw [pk_us]; decide) ?_
    rw [show (0 : Int32) + 1 + 1 = 2 by decide]
    exact H b _ _ _ _ _ _ _ _ h12
theorem uo_se_C0 {post : St2 → Prop} (hR : uo_Rdy 1 ins wc rd wn un W U a1 a2 a3 a4 a5 a6 a7 a8 a9 a10 a11 a12 a13 a14 sh nw) (hi : ins = 0 ∨ ins = 1) (h4 : a4 0 = 0)
    (q0 : uo_pr W U sh 12 (-1) 0 0 = (1, 0, 0)) (q1 : uo_pr W U sh 12 (-1) 1 0 = (1, 1, 0)) (q2 : uo_pr W U sh 12 (-1) 0 1 = (1, 0, 1))
    (hl : uo_lc 0 1 0 sh nw = 16 ∧ uo_lc 0 0 1 sh nw = 0 ∧ uo_lc 1 1 0 sh nw = 0 ∧ uo_lc 1 0 1 sh nw = 272)
    (H : ∀ (b a15 a16 a17 a18 : Nat → Int32) (ch rf fo bc : Int32), b 0 = 0 → post (1, ins, wc, 1, W, U, ch, rf, 0, fo, ins, bc, a1, a2, a3, a4, a5, a6, a7, a8, a9, a10, a11, b, sh, nw, a15, a16, a17, a18)) : wpX_search post (1, ins, wc, rd, wn, un, ch, rf, cn, fo, bs, bc, a1, a2, a3, a4, a5, a6, a7, a8, a9, a10, a11, a12, a13, a14, a15, a16, a17, a18) 0 := by
  obtain ⟨l1, l2, l3, l4⟩ := hl
  refine uo_search hR (Or.inl rfl) (fun b h12 => uo_propagate (Or.inr rfl) h4 h12 ?_)
  rw [q0]
  refine br_f (by decide) (uo_br1 (by decide) ⟨4, ?_⟩)
  rcases hi with rfl | rfl
  · refine uo_54_skip (j := 0) (t := 0) (Or.inl ⟨rfl, rfl⟩) (by decide) pk_us pk_us pk_us pk_us ?_
    refine uo_187 (Or.inr rfl) h4 h12 q2 (by decide) (fun _ => by rw [l2]; decide) ?_
    rw [l2]
    refine uo_54_take (t := 1) (Or.inl ⟨rfl, rfl⟩) (by decide) (by rw [pk_us]; decide) pk_us pk_us pk_us ?_
    refine uo_187_no (Or.inr rfl) h4 h12 q1 rfl (by rw [l1]; decide) ?_
    refine uo_54_pop (by decide) (by rw [pk_us]; decide) ?_
    rw [show uo_fS 0 0 (-3) 4096 = 0 by decide]
    exact H b _ _ _ _ _ _ _ _ h12
  · refine uo_54_take (j := 0) (t := 0) (Or.inr ⟨rfl, rfl⟩) (by decide) pk_us pk_us pk_us pk_us ?_
    refine uo_187 (Or.inr rfl) h4 h12 q1 (by decide) (fun _ => by rw [l3]; decide) ?_
    rw [l3]
    refine uo_54_skip (t := 1) (Or.inr ⟨rfl, rfl⟩) (by decide) (by rw [pk_us]; decide) pk_us pk_us pk_us ?_
    refine uo_187_no (Or.inr rfl) h4 h12 q2 rfl (by rw [l4]; decide) ?_
    refine uo_54_pop (by decide) (by rw [pk_us]; decide) ?_
    rw [show uo_fS 0 1 (-3) 4096 = 1 by decide]
    exact H b _ _ _ _ _ _ _ _ h12
/-! right -/
theorem uo_91 {post : Int32 → St2 → Prop} {s : Int32} : ∀ (k i : Nat), i + k = 5 → post (uo_ri wn un s a13 k i) (pc, ins, wc, rd, wn, un, ch, rf, cn, fo, bs, bc, a1, a2, a3, a4, a5, a6, a7, a8, a9, a10, a11, a12, a13, a14, a15, a16, a17, a18) → wX_right_91 post s pc ins wc rd wn un ch rf cn fo bs bc a1 a2 a3 a4 a5 a6 a7 a8 a9 a10 a11 a12 a13 a14 a15 a16 a17 a18 (k + 1) (nI i) := by
  intro k
  induction k with
  | zero =>
    intro i hi h
    exact pk_le 5 i (fun _ => h) (fun z => absurd z (by omega))
  | succ k ih =>
    intro i hi h
    have hlt : i < 5 := by omega
    unfold uo_ri at h
    refine pk_le 5 i (fun z => absurd z (by omega)) (fun _ => ⟨pk_in i 5 hlt, ?_⟩)
    rw [nI_clamp (show i < 2 ^ 31 by omega)]
    refine br_c (fun g => br_t rfl (br_c (fun g2 => br_t rfl (nm_r (nI_1 i) ?_)) (fun g2 => ?_))) (fun g => br_f (by decide) (br_f (by decide) (br_c (fun g2 => nm_r (nI_1 i) ?_) (fun g2 => ?_))))
    · rw [if_pos g, if_pos g2] at h
      exact ih _ (by omega) h
    · rw [if_pos g, if_neg g2] at h
      exact h
    · rw [if_neg g, if_pos g2] at h
      exact ih _ (by omega) h
    · rw [if_neg g, if_neg g2] at h
      exact h
theorem uo_16 {post : Int32 → St2 → Prop} {s : Int32} (hp : pc = 0 ∨ pc = 1) (h4 : a4 0 = 0) (h12 : a12 0 = 0) (h : post (uo_ri wn un s a13 5 0) (pc, ins, wc, rd, wn, un, ch, rf, cn, fo, bs, bc, a1, a2, a3, a4, a5, a6, a7, a8, a9, a10, a11, a12, a13, a14, a15, a16, a17, a18)) : ∃ fu, wX_right_16 post s pc ins wc rd wn un ch rf cn fo bs bc a1 a2 a3 a4 a5 a6 a7 a8 a9 a10 a11 a12 a13 a14 a15 a16 a17 a18 fu 0 := by
  rcases hp with rfl | rfl
  · exact ⟨1, br_t (by decide) ⟨6, uo_91 5 0 rfl h⟩⟩
  · have k : wX_right_16 post s 1 ins wc rd wn un ch rf cn fo bs bc a1 a2 a3 a4 a5 a6 a7 a8 a9 a10 a11 a12 a13 a14 a15 a16 a17 a18 1 1 := br_t (by decide) ⟨6, uo_91 5 0 rfl h⟩
    exact ⟨2, br_f (by decide) (br_c (fun _ => nm_r (e' := (1 : Int32)) (by decide) k) (fun _ => ⟨pk_in 0 10 (by decide), br_t (by rw [sb_cl0, h12]; exact Int32.zero_and) ⟨1, pk_in 0 10 (by decide), br_t (by rw [sb_cl0, h4]; decide) (nm_r (e' := (1 : Int32)) (by decide) k)⟩⟩))⟩
theorem uo_right {post : Int32 → St2 → Prop} {s : Int32} (hR : uo_Rdy pc ins wc rd wn un W U a1 a2 a3 a4 a5 a6 a7 a8 a9 a10 a11 a12 a13 a14 sh nw) (hp : pc = 0 ∨ pc = 1) (h4 : a4 0 = 0) (h0 : ¬ s < 0) (h1 : ¬ ((1 : Int32) <<< (pc &&& 31)) ≤ s)
    (h : ∀ b : Nat → Int32, b 0 = 0 → post (uo_ri W U s sh 5 0) (pc, ins, wc, 1, W, U, ch, rf, cn, fo, bs, bc, a1, a2, a3, a4, a5, a6, a7, a8, a9, a10, a11, b, sh, nw, a15, a16, a17, a18)) : wpX_right post (pc, ins, wc, rd, wn, un, ch, rf, cn, fo, bs, bc, a1, a2, a3, a4, a5, a6, a7, a8, a9, a10, a11, a12, a13, a14, a15, a16, a17, a18) s :=
  br_f h0 (br_f h1 (br_f (by decide) (hR _ ch rf cn fo bs bc a15 a16 a17 a18 (fun b hb => uo_16 hp h4 hb (h b hb)))))
theorem uo_right_no {post : Int32 → St2 → Prop} {s : Int32} (h0 : s < 0 ∨ ((1 : Int32) <<< (pc &&& 31)) ≤ s) (h : post 0 (pc, ins, wc, rd, wn, un, ch, rf, cn, fo, bs, bc, a1, a2, a3, a4, a5, a6, a7, a8, a9, a10, a11, a12, a13, a14, a15, a16, a17, a18)) : wpX_right post (pc, ins, wc, rd, wn, un, ch, rf, cn, fo, bs, bc, a1, a2, a3, a4, a5, a6, a7, a8, a9, a10, a11, a12, a13, a14, a15, a16, a17, a18) s :=
  br_c (fun _ => br_t rfl h) (fun g => br_t (h0.resolve_left g) (br_t rfl h))
end
end
section
section
variable {pc ins wc rd wn un ch rf cn fo bs bc : Int32} {a1 a2 a3 a4 a5 a6 a7 a8 a9 a10 a11 a12 a13 a14 a15 a16 a17 a18 : Nat → Int32} {sh nw : Nat → Int32} {W U : Int32}
theorem uo_ln_step {post : St2 → Prop} {n i : Nat} (hi : i < 5) (h : wX_listNames_2 post pc ins wc rd wn un ch rf cn fo bs bc n (nI (i + 1)) a1 a2 a3 a4 a5 a6 a7 a8 a9 a10 a11 a12 (upd a13 i 0) (upd a14 i (-1)) a15 a16 a17 a18) : wX_listNames_2 post pc ins wc rd wn un ch rf cn fo bs bc (n + 1) (nI i) a1 a2 a3 a4 a5 a6 a7 a8 a9 a10 a11 a12 a13 a14 a15 a16 a17 a18 :=
  pk_le 5 i (fun z => absurd z (by omega)) (fun _ => ⟨pk_in i 5 hi, nm_r (e' := upd a13 i 0) (by rw [nI_clamp (show i < 2 ^ 31 by omega)]) ⟨pk_in i 5 hi, nm_r (e' := upd a14 i (-1)) (by rw [nI_clamp (show i < 2 ^ 31 by omega)]) (nm_r (nI_1 i) h)⟩⟩)
theorem uo_names_5 {post : St2 → Prop} (h : ∃ fu, wX_listNames_29 post pc ins wc rd wn un ch rf cn fo bs bc fu 0 a1 a2 a3 a4 a5 a6 a7 a8 a9 a10 a11 a12 uo_z5 uo_m5 a15 a16 a17 a18) : wpX_listNames post (pc, ins, wc, rd, wn, un, ch, rf, cn, fo, bs, bc, a1, a2, a3, a4, a5, a6, a7, a8, a9, a10, a11, a12, fun _ => 0, fun _ => 0, a15, a16, a17, a18) :=
  ⟨6, uo_ln_step (i := 0) (by decide) (uo_ln_step (i := 1) (by decide) (uo_ln_step (i := 2) (by decide) (uo_ln_step (i := 3) (by decide) (uo_ln_step (i := 4) (by decide) (pk_le 5 5 (fun _ => h) (fun z => absurd z (by omega)))))))⟩
theorem uo_29_0 {post : St2 → Prop} (h : post (0, ins, wc, rd, wn, un, ch, rf, cn, fo, bs, bc, a1, a2, a3, a4, a5, a6, a7, a8, a9, a10, a11, a12, a13, a14, a15, a16, a17, a18)) : ∃ fu, wX_listNames_29 post 0 ins wc rd wn un ch rf cn fo bs bc fu 0 a1 a2 a3 a4 a5 a6 a7 a8 a9 a10 a11 a12 a13 a14 a15 a16 a17 a18 := ⟨1, br_t (by decide) h⟩
theorem uo_29_1 {post : St2 → Prop} {nm : Nat} (hn : nm < 5) (h1 : a1 0 = nI nm) (h : post (1, ins, wc, rd, wn, un, ch, rf, cn, fo, bs, bc, a1, a2, a3, a4, a5, a6, a7, a8, a9, a10, a11, a12, uo_s1 nm, uo_n1 nm, a15, a16, a17, a18)) : ∃ fu, wX_listNames_29 post 1 ins wc rd wn un ch rf cn fo bs bc fu 0 a1 a2 a3 a4 a5 a6 a7 a8 a9 a10 a11 a12 uo_z5 uo_m5 a15 a16 a17 a18 := by
  have cl : (nI nm).toNatClampNeg = nm := nI_clamp (by omega)
  refine ⟨2, br_f (by decide) ⟨pk_in 0 10 (by decide), nm_r (e' := nI nm) (by rw [sb_cl0, h1]) ⟨pk_in nm 5 hn, pk_in nm 5 hn, nm_r (e' := uo_s1 nm) (by rw [cl]; rfl) ⟨pk_in nm 5 hn, br_t (by rw [cl]; exact uo_t_m5 nm hn) ?_⟩⟩⟩⟩
  exact ⟨pk_in nm 5 hn, nm_r (e' := uo_n1 nm) (by rw [cl]; rfl) (nm_r (e' := (1 : Int32)) (by decide) (br_t (by decide) h))⟩
theorem uo_clash {post : St2 → Prop} (h7 : a7 0 = 0) (h12 : a12 0 = 0) (h : ∀ b : Nat → Int32, b 0 = 0 → post (1, ins, wc, rd, wn, un, ch, rf, cn, fo, bs, bc, a1, a2, a3, a4, a5, a6, a7, a8, a9, a10, a11, b, a13, a14, a15, a16, a17, a18)) : wpX_listClashes post (1, ins, wc, rd, wn, un, ch, rf, cn, fo, bs, bc, a1, a2, a3, a4, a5, a6, a7, a8, a9, a10, a11, a12, a13, a14, a15, a16, a17, a18) 0 := by
  refine ⟨1, pk_in 0 10 (by decide), br_t (by rw [sb_cl0, h7]; decide) (nm_r (e' := (0 : Int32)) (by decide) ⟨pk_in 0 10 (by decide), pk_in 0 10 (by decide), fun b eb => ?_⟩)⟩
  have hb : b 0 = 0 := by rw [eb, sb_cl0, pk_us, h12]; decide
  exact ⟨2, br_f (by decide) (br_t (by decide) (nm_r (e' := (1 : Int32)) (by decide) (br_t (by decide) (h b hb))))⟩
/-- the wishes, of which there is at most one, come to the masks W and U -/
def uo_Wsh (wc W U : Int32) (a9 a10 : Nat → Int32) : Prop :=
  ∀ (post : St2 → Prop) (pc ins rd ch rf cn fo bs bc : Int32) (a1 a2 a3 a4 a5 a6 a7 a8 a11 a12 a13 a14 a15 a16 a17 a18 : Nat → Int32), post (pc, ins, wc, rd, W, U, ch, rf, cn, fo, bs, bc, a1, a2, a3, a4, a5, a6, a7, a8, a9, a10, a11, a12, a13, a14, a15, a16, a17, a18) → ∃ fu, wX_prepare_166 post pc ins wc rd ch rf cn fo bs bc a1 a2 a3 a4 a5 a6 a7 a8 a9 a10 a11 a12 a13 a14 a15 a16 a17 a18 fu 0 0 0
theorem uo_Wsh_0 : uo_Wsh 0 0 0 a9 a10 :=
  fun post pc ins rd ch rf cn fo bs bc a1 a2 a3 a4 a5 a6 a7 a8 a11 a12 a13 a14 a15 a16 a17 a18 h => ⟨1, br_t (by decide) h⟩
theorem uo_Wsh_w {w : Nat} (h9 : a9 0 = nI w) (h10 : a10 0 = 1) : uo_Wsh 1 (uo_bit w) 0 a9 a10 :=
  fun post pc ins rd ch rf cn fo bs bc a1 a2 a3 a4 a5 a6 a7 a8 a11 a12 a13 a14 a15 a16 a17 a18 h => ⟨2, br_f (by decide) ⟨pk_in 0 4 (by decide), br_f (by rw [sb_cl0, h10]; decide) ⟨pk_in 0 4 (by decide), nm_r (e' := uo_bit w) (by rw [sb_cl0, h9]; rfl) (nm_r (e' := (1 : Int32)) (by decide) (br_t (by decide) h))⟩⟩⟩
theorem uo_Wsh_u {w : Nat} (h9 : a9 0 = nI w) (h10 : a10 0 = 0) : uo_Wsh 1 0 (uo_bit w) a9 a10 :=
  fun post pc ins rd ch rf cn fo bs bc a1 a2 a3 a4 a5 a6 a7 a8 a11 a12 a13 a14 a15 a16 a17 a18 h => ⟨2, br_f (by decide) ⟨pk_in 0 4 (by decide), br_t (by rw [sb_cl0, h10]) ⟨pk_in 0 4 (by decide), nm_r (e' := uo_bit w) (by rw [sb_cl0, h9]; rfl) (nm_r (e' := (1 : Int32)) (by decide) (br_t (by decide) h))⟩⟩⟩
theorem uo_raw0 (hw : uo_Wsh wc W U a9 a10) (h12 : a12 0 = 0) : uo_Rdy 0 ins wc 0 wn un W U a1 a2 a3 a4 a5 a6 a7 a8 a9 a10 a11 a12 (fun _ => 0) (fun _ => 0) uo_z5 uo_m5 :=
  fun post ch rf cn fo bs bc a15 a16 a17 a18 h => br_t rfl (uo_names_5 (uo_29_0 ⟨1, br_t (by decide) ⟨1, br_t (by decide) (hw post 0 ins 1 ch rf cn fo bs bc a1 a2 a3 a4 a5 a6 a7 a8 a11 a12 uo_z5 uo_m5 a15 a16 a17 a18 (h a12 h12))⟩⟩))
theorem uo_raw1 {nm : Nat} (hw : uo_Wsh wc W U a9 a10) (hn : nm < 5) (h1 : a1 0 = nI nm) (h4 : a4 0 = 0) (h7 : a7 0 = 0) : uo_Rdy 1 ins wc 0 wn un W U a1 a2 a3 a4 a5 a6 a7 a8 a9 a10 a11 a12 (fun _ => 0) (fun _ => 0) (uo_s1 nm) (uo_n1 nm) := by
  intro post ch rf cn fo bs bc a15 a16 a17 a18 h
  refine br_t rfl (uo_names_5 (uo_29_1 hn h1 ⟨2, br_f (by decide) ⟨1, pk_in 0 10 (by decide), br_t (by rw [sb_cl0, h4]; decide) ⟨pk_in 0 10 (by decide), pk_in nm 5 hn (by rw [sb_cl0, h1]), pk_in 0 10 (by decide), fun b eb => ?_⟩⟩⟩))
  have hb : b 0 = 0 := by rw [eb, sb_cl0, pk_us, h1, nI_clamp (by omega)]; exact uo_t_ex nm hn
  refine nm_r (e' := (1 : Int32)) (by decide) (br_t (by decide) ⟨2, br_f (by decide) (uo_clash h7 hb (fun c hc => nm_r (e' := (1 : Int32)) (by decide) (br_t (by decide) ?_)))⟩)
  exact hw post 1 ins 1 ch rf cn fo bs bc a1 a2 a3 a4 a5 a6 a7 a8 a11 c (uo_s1 nm) (uo_n1 nm) a15 a16 a17 a18 (h c hc)
end
end
section
/-- what the two sets come to: e, the empty set is right; o, the one package alone is right -/
def uo_K (e o pc ins W U : Int32) (sh nw : Nat → Int32) : Prop :=
  uo_ri W U 0 sh 5 0 = e ∧ (pc = 1 → uo_ri W U 1 sh 5 0 = o) ∧ (pc = 0 ∨ pc = 1) ∧
  ((e = 0 ∧ o = 0 ∧ (uo_pr W U sh 12 (-1) 0 0).1 = 0) ∨
   (((e = 0 ∧ o = 1) ∨ (e = 1 ∧ o = 0)) ∧ ∃ r : Int32, uo_pr W U sh 12 (-1) 0 0 = (1, o, r) ∧ uo_op pc o r = 0 ∧ uo_lc ins o r sh nw < 4096) ∨
   (e = 1 ∧ o = 1 ∧ pc = 1 ∧ uo_pr W U sh 12 (-1) 0 0 = (1, 0, 0) ∧ uo_pr W U sh 12 (-1) 1 0 = (1, 1, 0) ∧ uo_pr W U sh 12 (-1) 0 1 = (1, 0, 1) ∧ (uo_lc 0 1 0 sh nw = 16 ∧ uo_lc 0 0 1 sh nw = 0 ∧ uo_lc 1 1 0 sh nw = 0 ∧ uo_lc 1 0 1 sh nw = 272)))
def uo_bst (e o ins : Int32) : Int32 := if o = 0 then (if e = 0 then -3 else 0) else (if e = 0 then 1 else ins)
section
variable {pc ins wc rd wn un ch rf cn fo bs bc : Int32} {a1 a2 a3 a4 a5 a6 a7 a8 a9 a10 a11 a12 a13 a14 a15 a16 a17 a18 : Nat → Int32} {sh nw : Nat → Int32} {W U e o : Int32}
theorem uo_count {post : Int32 → St2 → Prop} (hR : uo_Rdy pc ins wc rd wn un W U a1 a2 a3 a4 a5 a6 a7 a8 a9 a10 a11 a12 a13 a14 sh nw) (hK : uo_K e o pc ins W U sh nw) (hi : ins = 0 ∨ ins = 1) (h4 : a4 0 = 0)
    (H : ∀ (b a15 a16 a17 a18 : Nat → Int32) (ch rf cn fo bs bc : Int32), b 0 = 0 → post (e + o) (pc, ins, wc, 1, W, U, ch, rf, cn, fo, bs, bc, a1, a2, a3, a4, a5, a6, a7, a8, a9, a10, a11, b, sh, nw, a15, a16, a17, a18)) : wpX_rightSets post (pc, ins, wc, rd, wn, un, ch, rf, cn, fo, bs, bc, a1, a2, a3, a4, a5, a6, a7, a8, a9, a10, a11, a12, a13, a14, a15, a16, a17, a18) := by
  obtain ⟨_, _, hp, k⟩ := hK
  rcases k with ⟨rfl, rfl, q⟩ | ⟨he, r, q, ho, hl⟩ | ⟨rfl, rfl, rfl, q0, q1, q2, hl⟩
  · exact uo_se_A hR (Or.inr rfl) hp h4 q (fun b ch rf h12 => H b _ _ _ _ _ _ _ _ _ _ h12)
  · have s : e + o = 1 := by
      rcases he with ⟨rfl, rfl⟩ | ⟨rfl, rfl⟩ <;> decide
    rw [s] at H
    exact uo_se_B hR (Or.inr rfl) hp h4 q ho hl (fun b bc h12 => H b _ _ _ _ _ _ _ _ _ _ h12)
  · exact uo_se_C1 hR hi h4 q0 q1 q2 (fun b a15 a16 a17 a18 ch rf bs bc h12 => H b a15 a16 a17 a18 ch rf 1 2 bs bc h12)
theorem uo_best {post : Int32 → St2 → Prop} (hR : uo_Rdy pc ins wc rd wn un W U a1 a2 a3 a4 a5 a6 a7 a8 a9 a10 a11 a12 a13 a14 sh nw) (hK : uo_K e o pc ins W U sh nw) (hi : ins = 0 ∨ ins = 1) (h4 : a4 0 = 0)
    (H : ∀ u : St2, post (uo_bst e o ins) u) : wpX_best post (pc, ins, wc, rd, wn, un, ch, rf, cn, fo, bs, bc, a1, a2, a3, a4, a5, a6, a7, a8, a9, a10, a11, a12, a13, a14, a15, a16, a17, a18) := by
  obtain ⟨_, _, hp, k⟩ := hK
  rcases k with ⟨rfl, rfl, q⟩ | ⟨he, r, q, ho, hl⟩ | ⟨rfl, rfl, rfl, q0, q1, q2, hl⟩
  · exact uo_se_A hR (Or.inl rfl) hp h4 q (fun b ch rf h12 => H _)
  · have s : uo_bst e o ins = o := by
      rcases he with ⟨rfl, rfl⟩ | ⟨rfl, rfl⟩ <;> rfl
    rw [s] at H
    exact uo_se_B hR (Or.inl rfl) hp h4 q ho hl (fun b bc h12 => H _)
  · exact uo_se_C0 hR hi h4 q0 q1 q2 hl (fun b a15 a16 a17 a18 ch rf fo bc h12 => H _)
theorem uo_K_eo {pc ins : Int32} (hK : uo_K e o pc ins W U sh nw) : (e = 0 ∨ e = 1) ∧ (o = 0 ∨ o = 1) := by
  obtain ⟨_, _, hp, k⟩ := hK
  rcases k with ⟨rfl, rfl, q⟩ | ⟨⟨rfl, rfl⟩ | ⟨rfl, rfl⟩, _⟩ | ⟨rfl, rfl, _⟩
  · exact ⟨Or.inl rfl, Or.inl rfl⟩
  · exact ⟨Or.inl rfl, Or.inr rfl⟩
  · exact ⟨Or.inr rfl, Or.inl rfl⟩
  · exact ⟨Or.inr rfl, Or.inr rfl⟩
/-- the set given: no set; the empty set; the one package -/
def uo_I (pc ins x3 x9 : Int32) : Prop :=
  (x9 = 0 ∧ ins = 0 ∧ (x3 < 0 ∨ ((1 : Int32) <<< (pc &&& 31)) ≤ x3)) ∨ (x9 = 1 ∧ x3 = 0 ∧ ins = 0) ∨ (x9 = 1 ∧ x3 = 1 ∧ ins = 1 ∧ pc = 1)
theorem uo_383 {mc ms kc ks : Nat} {x15 : Int32} (hR : uo_Rdy pc ins wc rd wn un W U a1 a2 a3 a4 a5 a6 a7 a8 a9 a10 a11 a12 a13 a14 sh nw) (hK : uo_K e o pc ins W U sh nw) (hi : ins = 0 ∨ ins = 1) (h4 : a4 0 = 0) (hx : uo_bst e o ins = x15) :
    wL_lawOf_383 (fun r _ => r = 1) mc ms x15 kc ks pc ins wc rd wn un ch rf cn fo bs bc a1 a2 a3 a4 a5 a6 a7 a8 a9 a10 a11 a12 a13 a14 a15 a16 a17 a18 :=
  uo_best hR hK hi h4 (fun u => br_t hx (rfl : (1 : Int32) = 1))
theorem uo_367 {mc ms kc ks : Nat} {x10 z0 : Int32} (hR : uo_Rdy pc ins wc rd wn un W U a1 a2 a3 a4 a5 a6 a7 a8 a9 a10 a11 a12 a13 a14 sh nw) (hK : uo_K e o pc ins W U sh nw) (hi : ins = 0 ∨ ins = 1) (h4 : a4 0 = 0) (hx : uo_bst e o ins = z0) (hn : x10 = 0 → uo_bst e o ins = -3) :
    wL_lawOf_367 (fun r _ => r = 1) mc ms x10 z0 kc ks pc ins wc rd wn un ch rf cn fo bs bc a1 a2 a3 a4 a5 a6 a7 a8 a9 a10 a11 a12 a13 a14 a15 a16 a17 a18 :=
  br_c (fun g => br_t (hx.symm.trans (hn g)) (uo_383 hR hK hi h4 hx)) (fun _ => uo_383 hR hK hi h4 hx)
theorem uo_322 {mc ms kc ks : Nat} {x10 z0 : Int32} (hR : uo_Rdy pc ins wc rd wn un W U a1 a2 a3 a4 a5 a6 a7 a8 a9 a10 a11 a12 a13 a14 sh nw) (hK : uo_K e o pc ins W U sh nw) (hi : ins = 0 ∨ ins = 1) (h4 : a4 0 = 0) (hz : z0 = ins) (hn : x10 = 0 → uo_bst e o ins = -3) :
    wL_lawOf_322 (fun r _ => r = 1) mc ms x10 e o z0 kc ks pc ins wc rd wn un ch rf cn fo bs bc a1 a2 a3 a4 a5 a6 a7 a8 a9 a10 a11 a12 a13 a14 a15 a16 a17 a18 := by
  subst hz
  obtain ⟨he, ho⟩ := uo_K_eo hK
  rcases he with rfl | rfl <;> rcases ho with rfl | rfl
  · exact br_t rfl (br_t rfl (br_t rfl (uo_367 hR hK hi h4 rfl hn)))
  · exact br_t rfl (br_f (by decide) (uo_367 hR hK hi h4 rfl hn))
  · exact br_f (by decide) (br_t rfl (br_t rfl (br_f (by decide) (uo_367 hR hK hi h4 rfl hn))))
  · rcases hi with rfl | rfl
    · exact br_f (by decide) (br_f (by decide) (br_t rfl (uo_367 hR hK (Or.inl rfl) h4 rfl hn)))
    · exact br_f (by decide) (br_f (by decide) (br_f (by decide) (uo_367 hR hK (Or.inr rfl) h4 rfl hn)))
theorem uo_301 {mc ms kc ks : Nat} {x3 x9 x10 z0 z1 z2 : Int32} (hR : uo_Rdy pc ins wc rd wn un W U a1 a2 a3 a4 a5 a6 a7 a8 a9 a10 a11 a12 a13 a14 sh nw) (hK : uo_K e o pc ins W U sh nw) (hI : uo_I pc ins x3 x9) (h4 : a4 0 = 0) (hz : z2 = z1 + z0) (hn : x10 = 0 → uo_bst e o ins = -3) :
    wL_lawOf_301 (fun r _ => r = 1) mc ms x3 x9 x10 e o z0 z1 z2 kc ks pc ins wc rd wn un ch rf cn fo bs bc a1 a2 a3 a4 a5 a6 a7 a8 a9 a10 a11 a12 a13 a14 a15 a16 a17 a18 := by
  refine br_t hz ?_
  rcases hI with ⟨rfl, rfl, _⟩ | ⟨rfl, rfl, rfl⟩ | ⟨rfl, rfl, rfl, _⟩
  · exact br_t rfl (uo_322 hR hK (Or.inl rfl) h4 rfl hn)
  · exact br_f (by decide) (br_f (by decide) (uo_322 hR hK (Or.inl rfl) h4 rfl hn))
  · exact br_f (by decide) (br_t rfl (uo_322 hR hK (Or.inr rfl) h4 rfl hn))
theorem uo_I_01 {pc ins x3 x9 : Int32} (hI : uo_I pc ins x3 x9) : ins = 0 ∨ ins = 1 := by
  rcases hI with ⟨rfl, rfl, _⟩ | ⟨rfl, rfl, rfl⟩ | ⟨rfl, rfl, rfl, _⟩
  · exact Or.inl rfl
  · exact Or.inl rfl
  · exact Or.inr rfl
theorem uo_271 {mc ms kc ks : Nat} {x3 x9 x10 z0 z1 : Int32} (hR : uo_Rdy pc ins wc rd wn un W U a1 a2 a3 a4 a5 a6 a7 a8 a9 a10 a11 a12 a13 a14 sh nw) (hK : uo_K e o pc ins W U sh nw) (hI : uo_I pc ins x3 x9) (h4 : a4 0 = 0) (hz : z1 = z0) (hn : x10 = 0 → uo_bst e o ins = -3) :
    wL_lawOf_271 (fun r _ => r = 1) mc ms x3 x9 x10 e o z0 z1 kc ks pc ins wc rd wn un ch rf cn fo bs bc a1 a2 a3 a4 a5 a6 a7 a8 a9 a10 a11 a12 a13 a14 a15 a16 a17 a18 := by
  refine br_t hz (uo_count hR hK (uo_I_01 hI) h4 (fun b a15 a16 a17 a18 ch rf cn fo bs bc hb => ?_))
  have hR' : uo_Rdy pc ins wc 1 W U W U a1 a2 a3 a4 a5 a6 a7 a8 a9 a10 a11 b sh nw sh nw := uo_Rdy_1 hb
  obtain ⟨he, ho⟩ := uo_K_eo hK
  rcases he with rfl | rfl <;> rcases ho with rfl | rfl
  · exact br_t rfl (br_t rfl (uo_301 hR' hK hI h4 rfl hn))
  · exact br_t rfl (br_f (by decide) (uo_301 hR' hK hI h4 rfl hn))
  · exact br_f (by decide) (br_t rfl (uo_301 hR' hK hI h4 rfl hn))
  · exact br_f (by decide) (br_f (by decide) (uo_301 hR' hK hI h4 rfl hn))
theorem uo_236 {mc ms kc ks : Nat} {x3 x9 x10 : Int32} (hR : uo_Rdy pc ins wc rd wn un W U a1 a2 a3 a4 a5 a6 a7 a8 a9 a10 a11 a12 a13 a14 sh nw) (hK : uo_K e o pc ins W U sh nw) (hI : uo_I pc ins x3 x9) (h4 : a4 0 = 0) (hn : x10 = 0 → uo_bst e o ins = -3) :
    wL_lawOf_236 (fun r _ => r = 1) mc ms x3 x9 x10 e o kc ks pc ins wc rd wn un ch rf cn fo bs bc a1 a2 a3 a4 a5 a6 a7 a8 a9 a10 a11 a12 a13 a14 a15 a16 a17 a18 := by
  obtain ⟨r0, r1, hp, _⟩ := id hK
  obtain ⟨he, ho⟩ := uo_K_eo hK
  have hI' := hI
  rcases hI' with ⟨rfl, rfl, hs⟩ | ⟨rfl, rfl, rfl⟩ | ⟨rfl, rfl, rfl, rfl⟩
  · exact uo_right_no hs (br_t rfl (uo_271 hR hK hI h4 rfl hn))
  · refine uo_right hR hp h4 (by decide) (by rcases hp with rfl | rfl <;> decide) (fun b hb => ?_)
    have hR' : uo_Rdy pc 0 wc 1 W U W U a1 a2 a3 a4 a5 a6 a7 a8 a9 a10 a11 b sh nw sh nw := uo_Rdy_1 hb
    rw [r0]
    rcases he with rfl | rfl
    · exact br_f (by decide) (br_t rfl (br_t rfl (uo_271 hR' hK hI h4 rfl hn)))
    · exact br_f (by decide) (br_t rfl (br_f (by decide) (uo_271 hR' hK hI h4 rfl hn)))
  · refine uo_right hR hp h4 (by decide) (by decide) (fun b hb => ?_)
    have hR' : uo_Rdy 1 1 wc 1 W U W U a1 a2 a3 a4 a5 a6 a7 a8 a9 a10 a11 b sh nw sh nw := uo_Rdy_1 hb
    rw [r1 rfl]
    rcases ho with rfl | rfl
    · exact br_f (by decide) (br_f (by decide) (br_t rfl (uo_271 hR' hK hI h4 rfl hn)))
    · exact br_f (by decide) (br_f (by decide) (br_f (by decide) (uo_271 hR' hK hI h4 rfl hn)))
end
end
section
/-! the kinds, out of the tables -/
theorem uo_K_N0 : uo_K 1 0 0 0 0 0 uo_z5 uo_m5 := ⟨uo_t_0.1, fun z => absurd z (by decide), Or.inl rfl, Or.inr (Or.inl ⟨Or.inr ⟨rfl, rfl⟩, 0, uo_t_0.2, by decide, by rw [uo_t_lc0]; decide⟩)⟩
theorem uo_K_Nw {w : Nat} (hw : w < 5) : uo_K 0 0 0 0 (uo_bit w) 0 uo_z5 uo_m5 := ⟨(uo_t_0w w hw).1, fun z => absurd z (by decide), Or.inl rfl, Or.inl ⟨rfl, rfl, (uo_t_0w w hw).2⟩⟩
theorem uo_K_Nu {w : Nat} (hw : w < 5) : uo_K 1 0 0 0 0 (uo_bit w) uo_z5 uo_m5 := ⟨(uo_t_0u w hw).1, fun z => absurd z (by decide), Or.inl rfl, Or.inr (Or.inl ⟨Or.inr ⟨rfl, rfl⟩, 0, (uo_t_0u w hw).2, by decide, by rw [uo_t_lc0]; decide⟩)⟩
theorem uo_K_P0 {nm : Nat} {ins : Int32} (hn : nm < 5) : uo_K 1 1 1 ins 0 0 (uo_s1 nm) (uo_n1 nm) :=
  have t := uo_t_1 nm hn
  ⟨t.1, fun _ => t.2.1, Or.inr rfl, Or.inr (Or.inr ⟨rfl, rfl, rfl, t.2.2.1, t.2.2.2.1, t.2.2.2.2, uo_t_lc nm hn⟩)⟩
theorem uo_K_Pou {nm w : Nat} {ins : Int32} (hn : nm < 5) (hw : w < 5) (h : ¬ w = nm) : uo_K 1 1 1 ins 0 (uo_bit w) (uo_s1 nm) (uo_n1 nm) :=
  have t := uo_t_1ou nm hn w hw h
  ⟨t.1, fun _ => t.2.1, Or.inr rfl, Or.inr (Or.inr ⟨rfl, rfl, rfl, t.2.2.1, t.2.2.2.1, t.2.2.2.2, uo_t_lc nm hn⟩)⟩
theorem uo_K_Pow {nm w : Nat} {ins : Int32} (hn : nm < 5) (hw : w < 5) (h : ¬ w = nm) : uo_K 0 0 1 ins (uo_bit w) 0 (uo_s1 nm) (uo_n1 nm) :=
  have t := uo_t_1ow nm hn w hw h
  ⟨t.1, fun _ => t.2.1, Or.inr rfl, Or.inl ⟨rfl, rfl, t.2.2⟩⟩
theorem uo_K_Pw {nm : Nat} {ins : Int32} (hn : nm < 5) (hi : ins = 0 ∨ ins = 1) : uo_K 0 1 1 ins (uo_bit nm) 0 (uo_s1 nm) (uo_n1 nm) := by
  have t := uo_t_1w nm hn
  have l := uo_t_lc nm hn
  refine ⟨t.1, fun _ => t.2.1, Or.inr rfl, Or.inr (Or.inl ⟨Or.inl ⟨rfl, rfl⟩, 0, t.2.2, by decide, ?_⟩)⟩
  rcases hi with rfl | rfl
  · rw [l.1]
    decide
  · rw [l.2.2.1]
    decide
theorem uo_K_Pu {nm : Nat} {ins : Int32} (hn : nm < 5) (hi : ins = 0 ∨ ins = 1) : uo_K 1 0 1 ins 0 (uo_bit nm) (uo_s1 nm) (uo_n1 nm) := by
  have t := uo_t_1u nm hn
  have l := uo_t_lc nm hn
  refine ⟨t.1, fun _ => t.2.1, Or.inr rfl, Or.inr (Or.inl ⟨Or.inr ⟨rfl, rfl⟩, 1, t.2.2, by decide, ?_⟩)⟩
  rcases hi with rfl | rfl
  · rw [l.2.1]
    decide
  · rw [l.2.2.2]
    decide
section
variable {pc ins wc rd wn un ch rf cn fo bs bc : Int32} {a1 a2 a3 a4 a5 a6 a7 a8 a9 a10 a11 a12 a13 a14 a15 a16 a17 a18 : Nat → Int32} {x0 x1 x2 x3 x4 x5 x6 x7 x8 x9 x10 : Int32} {mc ms kc ks : Nat}
theorem uo_inst {post : Int32 → St2 → Prop} (hI : uo_I pc ins x3 x9) (hp : pc = 0 ∨ pc = 1) (h : post x9 (pc, ins, wc, rd, wn, un, ch, rf, cn, fo, bs, bc, a1, a2, a3, a4, a5, a6, a7, a8, a9, a10, a11, a12, a13, a14, a15, a16, a17, a18)) : wpX_install post (pc, 0, wc, rd, wn, un, ch, rf, cn, fo, bs, bc, a1, a2, a3, a4, a5, a6, a7, a8, a9, a10, a11, a12, a13, a14, a15, a16, a17, a18) x3 := by
  rcases hI with ⟨rfl, rfl, hs⟩ | ⟨rfl, rfl, rfl⟩ | ⟨rfl, rfl, rfl, rfl⟩
  · exact br_c (fun _ => br_t rfl h) (fun g => br_t (hs.resolve_left g) (br_t rfl h))
  · exact br_f (by decide) (br_f (by rcases hp with rfl | rfl <;> decide) (br_f (by decide) h))
  · exact br_f (by decide) (br_f (by decide) (br_f (by decide) h))
theorem uo_wish_f {post : Int32 → St2 → Prop} (hx : x4 < 0 ∨ 4 < x4) (h : post (-1) (pc, ins, wc, rd, wn, un, ch, rf, cn, fo, bs, bc, a1, a2, a3, a4, a5, a6, a7, a8, a9, a10, a11, a12, a13, a14, a15, a16, a17, a18)) : wpX_wish post (pc, ins, wc, rd, wn, un, ch, rf, cn, fo, bs, bc, a1, a2, a3, a4, a5, a6, a7, a8, a9, a10, a11, a12, a13, a14, a15, a16, a17, a18) x4 x7 :=
  br_c (fun _ => h) (fun g => br_f (Int32.not_le.mpr (hx.resolve_left g)) h)
theorem uo_wish_t {post : Int32 → St2 → Prop} {w : Nat} (hw : w < 5) (h7 : x7 = 0 ∨ x7 = 1) (h : post 1 (pc, ins, 1, 0, wn, un, ch, rf, cn, fo, bs, bc, a1, a2, a3, a4, a5, a6, a7, a8, upd a9 0 (nI w), upd a10 0 x7, a11, a12, a13, a14, a15, a16, a17, a18)) : wpX_wish post (pc, ins, 0, rd, wn, un, ch, rf, cn, fo, bs, bc, a1, a2, a3, a4, a5, a6, a7, a8, a9, a10, a11, a12, a13, a14, a15, a16, a17, a18) (nI w) x7 := by
  refine br_f (nI_pos (by omega)) (pk_le w 4 (fun _ => br_t (by decide) ⟨pk_in 0 4 (by decide), nm_r (e' := upd a9 0 (nI w)) ?_ ⟨pk_in 0 4 (by decide), nm_r (e' := upd a10 0 x7) ?_ (nm_r (e' := (1 : Int32)) (by decide) h)⟩⟩) (fun z => absurd z (by omega)))
  · rw [sb_cl0, uo_t_b w hw]
  · rw [sb_cl0]
    rcases h7 with rfl | rfl <;> rfl
theorem uo_146_0 (hI : uo_I 0 ins x3 x9) (h4 : a4 0 = 0) (h12 : a12 0 = 0) (hT : x7 = 0 ∨ x7 = 1) (hW : (x8 = 1 ∧ ∃ w : Nat, w < 5 ∧ x4 = nI w) ∨ (x8 = 0 ∧ (x4 < 0 ∨ 4 < x4))) (hN : ¬ x10 = 0) :
    wL_lawOf_146 (fun r _ => r = 1) mc ms x0 x3 x4 0 x7 x8 x9 x10 (-1) (-1) kc ks 0 0 0 0 wn un ch rf cn fo bs bc a1 a2 a3 a4 a5 a6 a7 a8 a9 a10 a11 a12 (fun _ => 0) (fun _ => 0) a15 a16 a17 a18 := by
  have hi : ins = 0 := by
    rcases hI with ⟨_, h, _⟩ | ⟨_, _, h⟩ | ⟨_, _, _, h⟩
    · exact h
    · exact h
    · exact absurd h (by decide)
  subst hi
  refine br_t rfl (uo_inst hI (Or.inl rfl) (br_t rfl ?_))
  rcases hW with ⟨rfl, w, hw, rfl⟩ | ⟨rfl, hx⟩
  · refine uo_wish_t hw hT (br_f (by decide) (br_t rfl ?_))
    rcases hT with rfl | rfl
    · exact br_f (by decide) (br_t rfl (br_t rfl (uo_236 (uo_raw0 (uo_Wsh_u pk_us pk_us) h12) (uo_K_Nu hw) hI h4 (fun z => absurd z hN))))
    · exact br_f (by decide) (br_f (by decide) (br_t rfl (uo_236 (uo_raw0 (uo_Wsh_w pk_us pk_us) h12) (uo_K_Nw hw) hI h4 (fun z => absurd z hN))))
  · exact uo_wish_f hx (br_t rfl (br_t rfl (br_t rfl (br_t rfl (uo_236 (uo_raw0 uo_Wsh_0 h12) uo_K_N0 hI h4 (fun z => absurd z hN))))))
theorem uo_146_1 {nm : Nat} (hn : nm < 5) (h1 : a1 0 = nI nm) (hI : uo_I 1 ins x3 x9) (h4 : a4 0 = 0) (h7 : a7 0 = 0) (hT : x7 = 0 ∨ x7 = 1) (hW : (x8 = 1 ∧ ∃ w : Nat, w < 5 ∧ x4 = nI w) ∨ (x8 = 0 ∧ (x4 < 0 ∨ 4 < x4))) (hN : x10 = 0 → x8 = 1 ∧ x7 = 1 ∧ ¬ x4 = nI nm) :
    wL_lawOf_146 (fun r _ => r = 1) mc ms (nI nm) x3 x4 1 x7 x8 x9 x10 0 0 kc ks 1 0 0 0 wn un ch rf cn fo bs bc a1 a2 a3 a4 a5 a6 a7 a8 a9 a10 a11 a12 (fun _ => 0) (fun _ => 0) a15 a16 a17 a18 := by
  have hi := uo_I_01 hI
  refine br_t rfl (uo_inst hI (Or.inr rfl) (br_t rfl ?_))
  rcases hW with ⟨rfl, w, hw, rfl⟩ | ⟨rfl, hx⟩
  · refine uo_wish_t hw hT (br_f (by decide) (br_t rfl ?_))
    rcases hT with rfl | rfl
    · have no : ¬ x10 = 0 := fun z => absurd (hN z).2.1 (by decide)
      by_cases e : w = nm
      · subst e
        exact br_f (by decide) (br_t rfl (br_f (by decide) (br_f (by decide) (br_t rfl (br_f (by decide) (uo_236 (uo_raw1 (uo_Wsh_u pk_us pk_us) hn h1 h4 h7) (uo_K_Pu hn hi) hI h4 (fun z => absurd z no)))))))
      · have e' : ¬ nI w = nI nm := fun z => e ((nI_eq (by omega) (by omega)).mp z)
        exact br_f (by decide) (br_t rfl (br_f (by decide) (br_f (by decide) (br_f e' (br_t rfl (uo_236 (uo_raw1 (uo_Wsh_u pk_us pk_us) hn h1 h4 h7) (uo_K_Pou hn hw e) hI h4 (fun z => absurd z no)))))))
    · by_cases e : w = nm
      · subst e
        have no : ¬ x10 = 0 := fun z => absurd rfl (hN z).2.2
        exact br_f (by decide) (br_f (by decide) (br_f (by decide) (br_f (by decide) (br_t rfl (br_t rfl (uo_236 (uo_raw1 (uo_Wsh_w pk_us pk_us) hn h1 h4 h7) (uo_K_Pw hn hi) hI h4 (fun z => absurd z no)))))))
      · have e' : ¬ nI w = nI nm := fun z => e ((nI_eq (by omega) (by omega)).mp z)
        exact br_f (by decide) (br_f (by decide) (br_f (by decide) (br_f (by decide) (br_f e' (br_f (by decide) (uo_236 (uo_raw1 (uo_Wsh_w pk_us pk_us) hn h1 h4 h7) (uo_K_Pow hn hw e) hI h4 (fun _ => rfl)))))))
  · have no : ¬ x10 = 0 := fun z => absurd (hN z).1 (by decide)
    exact uo_wish_f hx (br_t rfl (br_t rfl (br_t rfl (br_f (by decide) (br_t rfl (uo_236 (uo_raw1 uo_Wsh_0 hn h1 h4 h7) (uo_K_P0 hn) hI h4 (fun z => absurd z no)))))))
/-! the package's arguments are taken, or not -/
def uo_P (x0 x1 x2 x6 : Int32) : Prop := (x6 = 1 ∧ ¬ x0 < 0 ∧ ¬ 4 < x0 ∧ ¬ x1 < 1 ∧ ¬ 9 < x1 ∧ ¬ x2 < 0 ∧ ¬ 15 < x2) ∨ (x6 = 0 ∧ (x0 < 0 ∨ 4 < x0 ∨ x1 < 1 ∨ 9 < x1 ∨ x2 < 0 ∨ 15 < x2))
theorem uo_add_f {post : Int32 → St2 → Prop} (hx : x0 < 0 ∨ 4 < x0 ∨ x1 < 1 ∨ 9 < x1 ∨ x2 < 0 ∨ 15 < x2) (h : post (-1) (0, ins, wc, rd, wn, un, ch, rf, cn, fo, bs, bc, a1, a2, a3, a4, a5, a6, a7, a8, a9, a10, a11, a12, a13, a14, a15, a16, a17, a18)) : wpX_addPackage post (0, ins, wc, rd, wn, un, ch, rf, cn, fo, bs, bc, a1, a2, a3, a4, a5, a6, a7, a8, a9, a10, a11, a12, a13, a14, a15, a16, a17, a18) x0 x1 x2 :=
  br_t (by decide) (br_c (fun _ => h) (fun g0 => br_c (fun _ => h) (fun g1 => br_c (fun _ => h) (fun g2 => br_c (fun _ => h) (fun g3 => br_c (fun _ => h) (fun g4 => br_f (Int32.not_le.mpr (((((hx.resolve_left g0).resolve_left g1).resolve_left g2).resolve_left g3).resolve_left g4)) h))))))
theorem uo_add_t {post : Int32 → St2 → Prop} (h0 : ¬ x0 < 0) (h1 : ¬ 4 < x0) (h2 : ¬ x1 < 1) (h3 : ¬ 9 < x1) (h4 : ¬ x2 < 0) (h5 : ¬ 15 < x2) (h : ∀ c d : Nat → Int32, post 0 (1, ins, wc, 0, wn, un, ch, rf, cn, fo, bs, bc, upd a1 0 x0.toInt8.toInt32, c, d, a4, a5, a6, a7, a8, a9, a10, a11, a12, a13, a14, a15, a16, a17, a18)) : wpX_addPackage post (0, ins, wc, rd, wn, un, ch, rf, cn, fo, bs, bc, a1, a2, a3, a4, a5, a6, a7, a8, a9, a10, a11, a12, a13, a14, a15, a16, a17, a18) x0 x1 x2 :=
  br_t (by decide) (br_f h0 (br_f h1 (br_f h2 (br_f h3 (br_f h4 (br_t (Int32.not_lt.mp h5) ⟨1, br_t (by decide) ⟨pk_in 0 10 (by decide), nm_r (e' := upd a1 0 x0.toInt8.toInt32) (by rw [sb_cl0]) ⟨pk_in 0 10 (by decide), fun c _ => ⟨pk_in 0 10 (by decide), fun d _ => nm_r (e' := (1 : Int32)) (by decide) (h c d)⟩⟩⟩⟩))))))
def uo_X (x3 x6 x9 : Int32) : Prop := (x9 = 1 ∧ (x3 = 0 ∨ (x6 = 1 ∧ x3 = 1))) ∨ (x9 = 0 ∧ ¬ x3 = 0 ∧ (x6 = 0 ∨ ¬ x3 = 1))
theorem uo_I_0 (h : uo_X x3 0 x9) : uo_I 0 0 x3 x9 := by
  rcases h with ⟨rfl, h | ⟨h, _⟩⟩ | ⟨rfl, h, _⟩
  · exact Or.inr (Or.inl ⟨rfl, h, rfl⟩)
  · exact absurd h (by decide)
  · refine Or.inl ⟨rfl, rfl, ?_⟩
    by_cases g : x3 < 0
    · exact Or.inl g
    · obtain ⟨j, hj, rfl⟩ := nI_of g
      have j1 : 1 ≤ j := by
        rcases Nat.lt_or_ge j 1 with z | z
        · have z' : j = 0 := by omega
          subst z'
          exact absurd nI_0 h
        · exact z
      exact Or.inr (nI_le (a := 1) j1 hj)
theorem uo_I_1 (h : uo_X x3 1 x9) : ∃ i, uo_I 1 i x3 x9 := by
  rcases h with ⟨rfl, h | ⟨_, h⟩⟩ | ⟨rfl, h, h' | h'⟩
  · exact ⟨0, Or.inr (Or.inl ⟨rfl, h, rfl⟩)⟩
  · exact ⟨1, Or.inr (Or.inr ⟨rfl, h, rfl, rfl⟩)⟩
  · exact absurd h' (by decide)
  · refine ⟨0, Or.inl ⟨rfl, rfl, ?_⟩⟩
    by_cases g : x3 < 0
    · exact Or.inl g
    · obtain ⟨j, hj, rfl⟩ := nI_of g
      have j2 : 2 ≤ j := by
        rcases Nat.lt_or_ge j 2 with z | z
        · rcases (show j = 0 ∨ j = 1 by omega) with z' | z'
          · subst z'
            exact absurd nI_0 h
          · subst z'
            exact absurd rfl h'
        · exact z
      exact Or.inr (nI_le (a := 2) j2 hj)
theorem uo_L117 (hP : uo_P x0 x1 x2 x6) (hT : x7 = 0 ∨ x7 = 1) (hW : (x8 = 1 ∧ ∃ w : Nat, w < 5 ∧ x4 = nI w) ∨ (x8 = 0 ∧ (x4 < 0 ∨ 4 < x4))) (hX : uo_X x3 x6 x9) (hN : x10 = 0 → x6 = 1 ∧ x8 = 1 ∧ x7 = 1 ∧ ¬ x4 = x0) :
    wL_lawOf_117 (fun r _ => r = 1) 110 1760 x0 x1 x2 x3 x4 x6 x7 x8 x9 x10 0 0 := by
  refine ⟨by decide, by decide, 18, 222, by decide, by decide, by decide, by decide, by decide, by decide, by decide, by decide, by decide, by decide, by decide, by decide, by decide, by decide, by decide, by decide, by decide, by decide, by decide, by decide, by decide, by decide, by decide, by decide, by decide, by decide, by decide, by decide, by decide, by decide, by decide, by decide, by decide, by decide, by decide, by decide, by decide, by decide, ?_⟩
  rcases hP with ⟨rfl, p0, p1, p2, p3, p4, p5⟩ | ⟨rfl, hx⟩
  · obtain ⟨nm, hn, rfl⟩ := nI_of2 (M := 4) (n := 4) (by decide) p0 (Int32.not_lt.mp p1)
    obtain ⟨i, hI⟩ := uo_I_1 hX
    exact uo_add_t p0 p1 p2 p3 p4 p5 (fun c d => br_f (by decide) (uo_146_1 (by omega) (by rw [pk_us]; exact uo_t_b nm (by omega)) hI rfl rfl hT hW (fun z => (hN z).2)))
  · exact uo_add_f hx (br_t rfl (uo_146_0 (uo_I_0 hX) rfl rfl hT hW (fun z => absurd (hN z).1 (by decide))))
theorem uo_L89 (hP : uo_P x0 x1 x2 x6) (hT : x7 = 0 ∨ x7 = 1) (hW : (x8 = 1 ∧ ∃ w : Nat, w < 5 ∧ x4 = nI w) ∨ (x8 = 0 ∧ (x4 < 0 ∨ 4 < x4))) (hX : uo_X x3 x6 x9) :
    wL_lawOf_89 (fun r _ => r = 1) 110 1760 x0 x1 x2 x3 x4 x6 x7 x8 x9 0 0 := by
  have one : wL_lawOf_117 (fun r _ => r = 1) 110 1760 x0 x1 x2 x3 x4 x6 x7 x8 x9 1 0 0 := uo_L117 hP hT hW hX (fun z => absurd z (by decide))
  refine br_c (fun _ => one) (fun g6 => br_c (fun _ => one) (fun g8 => br_c (fun _ => one) (fun g7 => br_c (fun _ => one) (fun g4 => uo_L117 hP hT hW hX (fun _ => ⟨?_, ?_, ?_, g4⟩)))))
  · exact hP.elim (fun h => h.1) (fun h => absurd h.1 g6)
  · exact hW.elim (fun h => h.1) (fun h => absurd h.1 g8)
  · exact hT.elim (fun h => absurd h g7) id
theorem uo_L68 (hP : uo_P x0 x1 x2 x6) (hT : x7 = 0 ∨ x7 = 1) (hW : (x8 = 1 ∧ ∃ w : Nat, w < 5 ∧ x4 = nI w) ∨ (x8 = 0 ∧ (x4 < 0 ∨ 4 < x4))) :
    wL_lawOf_68 (fun r _ => r = 1) 110 1760 x0 x1 x2 x3 x4 x6 x7 x8 0 0 :=
  br_c (fun g => uo_L89 hP hT hW (Or.inl ⟨rfl, Or.inl g⟩)) (fun g => br_c (fun g6 => uo_L89 hP hT hW (Or.inr ⟨rfl, g, Or.inl g6⟩)) (fun g6 => br_c (fun g1 => uo_L89 hP hT hW (Or.inl ⟨rfl, Or.inr ⟨hP.elim (fun h => h.1) (fun h => absurd h.1 g6), g1⟩⟩)) (fun g1 => uo_L89 hP hT hW (Or.inr ⟨rfl, g, Or.inr g1⟩))))
theorem uo_L50 (hP : uo_P x0 x1 x2 x6) (hT : x7 = 0 ∨ x7 = 1) : wL_lawOf_50 (fun r _ => r = 1) 110 1760 x0 x1 x2 x3 x4 x6 x7 0 0 := by
  refine br_c (fun g => uo_L68 hP hT (Or.inr ⟨rfl, Or.inl g⟩)) (fun g => br_c (fun g4 => uo_L68 hP hT (Or.inr ⟨rfl, Or.inr g4⟩)) (fun g4 => uo_L68 hP hT (Or.inl ⟨rfl, ?_⟩)))
  obtain ⟨w, hw, e⟩ := nI_of2 (M := 4) (n := 4) (by decide) g (Int32.not_lt.mp g4)
  exact ⟨w, by omega, e⟩
theorem uo_L35 (hP : uo_P x0 x1 x2 x6) : wL_lawOf_35 (fun r _ => r = 1) 110 1760 x0 x1 x2 x3 x4 x5 x6 0 0 :=
  br_c (fun _ => uo_L50 hP (Or.inr rfl)) (fun _ => uo_L50 hP (Or.inl rfl))
theorem uo_lawOf : wpL_lawOf (fun r _ => r = 1) 110 1760 () x0 x1 x2 x3 x4 x5 :=
  br_c (fun g => uo_L35 (Or.inr ⟨rfl, Or.inl g⟩)) (fun g0 => br_c (fun g => uo_L35 (Or.inr ⟨rfl, Or.inr (Or.inl g)⟩)) (fun g1 => br_c (fun g => uo_L35 (Or.inr ⟨rfl, Or.inr (Or.inr (Or.inl g))⟩)) (fun g2 => br_c (fun g => uo_L35 (Or.inr ⟨rfl, Or.inr (Or.inr (Or.inr (Or.inl g)))⟩)) (fun g3 => br_c (fun g => uo_L35 (Or.inr ⟨rfl, Or.inr (Or.inr (Or.inr (Or.inr (Or.inl g))))⟩)) (fun g4 => br_c (fun g => uo_L35 (Or.inr ⟨rfl, Or.inr (Or.inr (Or.inr (Or.inr (Or.inr g))))⟩)) (fun g5 => uo_L35 (Or.inl ⟨rfl, g0, g1, g2, g3, g4, g5⟩)))))))
theorem uo_cell {post : Int32 → Prop} {xs : Nat → Int32} {L : Nat} (hL : L ≤ 6) (k : Nat) (hk : k < 6) (h : ∀ r, post r) : wpL_cellAt post L xs () (nI k) :=
  pk_le L k (fun _ => h 0) (fun z => ⟨pk_in k L z, h _⟩)
end
end
section
theorem i_vc (xs : Nat → Int32) (L : Nat) (hL : L ≤ 6) : wpL_law (fun r => r = 1) L xs :=
  uo_cell hL 0 (by decide) (fun r1 => uo_cell hL 1 (by decide) (fun r2 => uo_cell hL 2 (by decide) (fun r3 => uo_cell hL 3 (by decide) (fun r4 => uo_cell hL 4 (by decide) (fun r5 => uo_cell hL 5 (by decide) (fun r6 => ⟨110, 1760, by decide, by decide, uo_lawOf⟩))))))
end
