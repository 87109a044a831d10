section
theorem nd_isDoc {post : Int32 → Prop} {d : Nat} (hd : d < 8) (h : post 1) : wpX_isDoc post () (nI d) := by
  unfold wpX_isDoc
  exact br_f (nI_pos (by omega)) (br_f (nI_nlt (a := 7) (b := d) (by omega) (by omega)) h)
theorem nd_ix (j i : Nat) : (16 : Int32) * nI j + nI i = nI (16 * j + i) := by
  rw [show (16 : Int32) = nI 16 from rfl, pk_mul, nI_add]
theorem nd_write0 {post : Int32 → St2 → Prop} {f1 f2 f3 f4 f5 : Int32} {a1 a2 a3 a4 a5 a6 a7 a8 a9 a10 : Nat → Int32} {d : Nat} {p : Int32} (hd : d < 8) (h1 : a1 d = nI 0)
    (H : post (nI 1) (f1, f2, f3, f4, f5, upd a1 d (nI 1), upd a2 (16 * d) (p &&& 3), a3, a4, a5, a6, a7, a8, a9, a10)) :
    wpX_write post (f1, f2, f3, f4, f5, a1, a2, a3, a4, a5, a6, a7, a8, a9, a10) (nI d) p := by
  unfold wpX_write
  dsimp only
  refine nd_isDoc hd (br_f (by decide) ⟨pk_in d 8 hd, ?_⟩)
  rw [nI_clamp (show d < 2 ^ 31 by omega), h1]
  refine br_t (by decide) ⟨pk_in d 8 hd, nm_e ?_⟩
  rw [nd_ix d 0, nI_clamp (show 16 * d + 0 < 2 ^ 31 by omega)]
  refine ⟨pk_in (16 * d + 0) 128 (by omega), nm_e (br_t (by decide) ?_)⟩
  unfold wX_write_78
  refine ⟨pk_in d 8 hd, nm_e ?_⟩
  rw [nI_clamp (show d < 2 ^ 31 by omega), nI_1 0]
  exact H
theorem nd_write1 {post : Int32 → St2 → Prop} {f1 f2 f3 f4 f5 : Int32} {a1 a2 a3 a4 a5 a6 a7 a8 a9 a10 : Nat → Int32} {d A B : Nat} {p : Int32} (hd : d < 8) (h1 : a1 d = nI 1) (hA : A < 4) (hB : B < 4) (h2 : a2 (16 * d) = nI A) (hp : p &&& 3 = nI B)
    (H : post (nI 2) (f1, f2, f3, f4, f5, upd a1 d (nI 2), upd a2 (16 * d + 1) (nI B), upd a3 (16 * d + 4 * A + B) (a3 (16 * d + 4 * A + B) + 1), a4, a5, a6, a7, a8, a9, a10)) :
    wpX_write post (f1, f2, f3, f4, f5, a1, a2, a3, a4, a5, a6, a7, a8, a9, a10) (nI d) p := by
  unfold wpX_write
  dsimp only
  refine nd_isDoc hd (br_f (by decide) ⟨pk_in d 8 hd, ?_⟩)
  rw [nI_clamp (show d < 2 ^ 31 by omega), h1, hp]
  refine br_t (by decide) ⟨pk_in d 8 hd, nm_e ?_⟩
  rw [nd_ix d 1, nI_clamp (show 16 * d + 1 < 2 ^ 31 by omega), nI_pred, nI_clamp (show 16 * d < 2 ^ 31 by omega)]
  refine ⟨pk_in (16 * d + 1) 128 (by omega), nm_e (br_f (by decide) ⟨pk_in (16 * d) 128 (by omega), ?_⟩)⟩
  have e : (16 : Int32) * nI d + 4 * nI A + nI B = nI (16 * d + 4 * A + B) := by
    rw [show (16 : Int32) = nI 16 from rfl, show (4 : Int32) = nI 4 from rfl, pk_mul, pk_mul, nI_add, nI_add]
  rw [pk_un (show 16 * d ≠ 16 * d + 1 by omega), h2, e, nI_clamp (show 16 * d + 4 * A + B < 2 ^ 31 by omega)]
  refine ⟨pk_in (16 * d + 4 * A + B) 128 (by omega), pk_in (16 * d + 4 * A + B) 128 (by omega), nm_e ?_⟩
  unfold wX_write_78
  refine ⟨pk_in d 8 hd, nm_e ?_⟩
  rw [nI_clamp (show d < 2 ^ 31 by omega), nI_1 1]
  exact H
theorem nd_type {post : Int32 → St2 → Prop} {f2 f3 f4 f5 : Int32} {a1 a2 a3 a4 a5 a6 a7 a8 a9 a10 : Nat → Int32} {p : Int32}
    (H : post (nI 1) (nI 1, f2, f3, f4, f5, a1, a2, a3, upd a4 0 (p &&& 3), a5, a6, a7, a8, a9, a10)) : wpX_type post (0, f2, f3, f4, f5, a1, a2, a3, a4, a5, a6, a7, a8, a9, a10) p := by
  unfold wpX_type
  dsimp only
  refine br_t (by decide) ⟨pk_in 0 8 (by omega), nm_e (br_t (by decide) ?_)⟩
  unfold wX_type_56
  refine nm_r (e' := nI 1) (by decide) ?_
  rw [sb_cl0]
  exact H
end
section
/-- the place behind the first letter of l that is Q, below n; 0: none -/
def nd_be (l : Nat → Nat) (Q : Nat) : Nat → Nat
  | 0 => 0
  | n + 1 => if nd_be l Q n = 0 ∧ l n = Q then n + 1 else nd_be l Q n
/-- the least distance of a query of one letter -/
def nd_bd (l : Nat → Nat) (Q n : Nat) : Nat := if nd_be l Q n = 0 then 1 else 0
theorem nd_be_le (l : Nat → Nat) (Q n : Nat) : nd_be l Q n ≤ n := by
  induction n with
  | zero => exact Nat.le_refl 0
  | succ n ih =>
    show (if nd_be l Q n = 0 ∧ l n = Q then n + 1 else nd_be l Q n) ≤ n + 1
    split <;> omega
theorem nd_206 {post : St2 → Prop} {J : Int32 → Int32 → Int32 → Int32 → Int32 → Int32 → Prop} {x1 x2 x3 x9 x11 x12 z0 z1 : Int32} {f1 f4 f5 : Int32} {a1 a2 a3 a4 a5 a6 a7 a8 a9 a10 : Nat → Int32} {i s b c : Nat}
    (hs : z1 + z0 = nI s) (hu : ((x12 <<< ((1 : Int32) &&& 31)) ||| ((x9 ||| (x11 <<< ((1 : Int32) &&& 31))) ^^^ (-1))) &&& x2 = nI s)
    (hd : ((x11 <<< ((1 : Int32) &&& 31)) &&& x9) &&& x2 = 0) (hsb : s < 100) (hbb : b < 100)
    (H1 : b ≤ s → J (nI s) 0 (nI s) (nI (i + 1)) (nI b) (nI c))
    (H2 : s < b → J (nI s) 0 (nI s) (nI (i + 1)) (nI s) (nI (i + 1))) :
    wX_search_206 post J x1 x2 x3 (nI i) x9 x11 x12 z0 z1 f1 (nI b) (nI c) f4 f5 a1 a2 a3 a4 a5 a6 a7 a8 a9 a10 := by
  unfold wX_search_206
  refine nm_r hs (nm_e (nm_e (nm_r hu (nm_r hd ?_))))
  exact pk_le b s (fun z => nm_r (nI_1 i) (H1 z)) (fun z => nm_r (nI_1 i) (nm_r (nI_1 i) (H2 z)))
theorem nd_107 {post : St2 → Prop} {f4 f5 : Int32} {a1 a2 a3 a4 a5 a6 a7 a8 a9 a10 : Nat → Int32} {j n Q : Nat} {l : Nat → Nat} (hj : j < 8) (hn : n ≤ 16)
    (h1 : a1 j = nI n) (h2 : ∀ i, i < n → l i < 4 ∧ a2 (16 * j + i) = nI (l i)) (h6 : ∀ k, k < 4 → a6 k = if k = Q then 1 else 0)
    (H : post (nI 1, nI (nd_bd l Q n), nI (nd_be l Q n), f4, f5, a1, a2, a3, a4, a5, a6, a7, a8, a9, a10)) :
    ∃ fu, wX_search_107 post (nI j) 1 1 (nI 1) f4 f5 a1 a2 a3 a4 a5 a6 a7 a8 a9 a10 fu 1 0 (nI 1) 0 (nI 1) 0 := by
  refine pk_loop (fun n i s => wX_search_107 post (nI j) 1 1 (nI 1) f4 f5 a1 a2 a3 a4 a5 a6 a7 a8 a9 a10 n (nI s) 0 (nI s) (nI i) (nI (nd_bd l Q i)) (nI (nd_be l Q i))) (fun _ s => s ≤ 1) n 0 1 (by omega) (Nat.le_refl 1) ?_ ?_
  · intro m s hs
    refine ⟨pk_in j 8 hj, ?_⟩
    rw [nI_clamp (show j < 2 ^ 31 by omega), h1]
    exact pk_le n n (fun _ => H) (fun z => absurd z (by omega))
  · intro m i s hi hs hw
    refine ⟨pk_in j 8 hj, ?_⟩
    rw [nI_clamp (show j < 2 ^ 31 by omega), h1]
    refine pk_le n i (fun z => absurd z (by omega)) (fun _ => ⟨pk_in (16 * j + i) 128 (by omega) (nd_ix j i), ?_⟩)
    obtain ⟨hl, hl2⟩ := h2 i hi
    rw [nd_ix j i, nI_clamp (show 16 * j + i < 2 ^ 31 by omega), hl2, nI_clamp (show l i < 2 ^ 31 by omega), h6 _ hl]
    refine ⟨pk_in (l i) 4 hl, ?_⟩
    have hbd : nd_bd l Q i < 100 := by unfold nd_bd; split <;> omega
    have hb1 : nd_bd l Q i ≤ 1 := by unfold nd_bd; split <;> omega
    by_cases e : l i = Q
    · have t := hw 0 (by omega)
      have J1 : nd_bd l Q i ≤ 0 → wX_search_107 post (nI j) 1 1 (nI 1) f4 f5 a1 a2 a3 a4 a5 a6 a7 a8 a9 a10 m (nI 0) 0 (nI 0) (nI (i + 1)) (nI (nd_bd l Q i)) (nI (nd_be l Q i)) := by
        intro z
        have z2 : nd_be l Q i ≠ 0 := by
          intro z3
          unfold nd_bd at z
          rw [if_pos z3] at z
          omega
        have e2 : nd_be l Q (i + 1) = nd_be l Q i := if_neg (fun g => z2 g.1)
        have e3 : nd_bd l Q (i + 1) = nd_bd l Q i := by unfold nd_bd; rw [e2]
        rw [← e3, ← e2]
        exact t
      have J2 : 0 < nd_bd l Q i → wX_search_107 post (nI j) 1 1 (nI 1) f4 f5 a1 a2 a3 a4 a5 a6 a7 a8 a9 a10 m (nI 0) 0 (nI 0) (nI (i + 1)) (nI 0) (nI (i + 1)) := by
        intro z
        have z2 : nd_be l Q i = 0 := by
          unfold nd_bd at z
          split at z
          · assumption
          · omega
        have e2 : nd_be l Q (i + 1) = i + 1 := if_pos ⟨z2, e⟩
        have e3 : nd_bd l Q (i + 1) = 0 := by unfold nd_bd; rw [e2]; exact if_neg (by omega)
        have t' : wX_search_107 post (nI j) 1 1 (nI 1) f4 f5 a1 a2 a3 a4 a5 a6 a7 a8 a9 a10 m (nI 0) 0 (nI 0) (nI (i + 1)) (nI (nd_bd l Q (i + 1))) (nI (nd_be l Q (i + 1))) := t
        rw [e2, e3] at t'
        exact t'
      rw [if_pos e]
      refine nm_e (nm_e (nm_e (nm_e (nm_e ?_))))
      rcases (show s = 0 ∨ s = 1 by omega) with rfl | rfl
      · exact br_t (by decide) (br_t (by decide) (nd_206 (s := 0) (by decide) (by decide) (by decide) (by omega) hbd J1 J2))
      · exact br_t (by decide) (br_f (by decide) (nd_206 (s := 0) (by decide) (by decide) (by decide) (by omega) hbd J1 J2))
    · have t := hw 1 (by omega)
      have e2 : nd_be l Q (i + 1) = nd_be l Q i := if_neg (fun g => e g.2)
      have e3 : nd_bd l Q (i + 1) = nd_bd l Q i := by unfold nd_bd; rw [e2]
      have J1 : nd_bd l Q i ≤ 1 → wX_search_107 post (nI j) 1 1 (nI 1) f4 f5 a1 a2 a3 a4 a5 a6 a7 a8 a9 a10 m (nI 1) 0 (nI 1) (nI (i + 1)) (nI (nd_bd l Q i)) (nI (nd_be l Q i)) := by
        intro z
        rw [← e3, ← e2]
        exact t
      rw [if_neg e]
      refine nm_e (nm_e (nm_e (nm_e (nm_e ?_))))
      rcases (show s = 0 ∨ s = 1 by omega) with rfl | rfl
      · exact br_f (by decide) (nd_206 (s := 1) (by decide) (by decide) (by decide) (by omega) hbd J1 (fun z => absurd z (by omega)))
      · exact br_t (by decide) (br_t (by decide) (nd_206 (s := 1) (by decide) (by decide) (by decide) (by omega) hbd J1 (fun z => absurd z (by omega))))
theorem nd_search {post : St2 → Prop} {f2 f3 f4 f5 : Int32} {a1 a2 a3 a4 a5 a6 a7 a8 a9 a10 : Nat → Int32} {j n Q : Nat} {l : Nat → Nat} (hj : j < 8) (hn : n ≤ 16) (hQ : Q < 4)
    (h1 : a1 j = nI n) (h2 : ∀ i, i < n → l i < 4 ∧ a2 (16 * j + i) = nI (l i)) (h4 : a4 0 = nI Q)
    (H : ∀ b6, post (nI 1, nI (nd_bd l Q n), nI (nd_be l Q n), f4, f5, a1, a2, a3, a4, a5, b6, a7, a8, a9, a10)) :
    wpX_search post (nI 1, f2, f3, f4, f5, a1, a2, a3, a4, a5, a6, a7, a8, a9, a10) (nI j) := by
  unfold wpX_search
  dsimp only
  refine pk_loop (fun n i s => wX_search_2 post (nI j) (nI 1) f2 f3 f4 f5 n (nI i) a1 a2 a3 a4 a5 s a7 a8 a9 a10) (fun i s => ∀ k, k < i → s k = 0) 4 0 a6 (by omega) (fun k hk => absurd hk (by omega)) ?_ ?_
  · intro m s hs
    refine pk_le 4 4 (fun _ => ⟨2, ?_⟩) (fun z => absurd z (by omega))
    refine br_f (by decide) ⟨pk_in 0 8 (by omega), ?_⟩
    rw [sb_cl0, h4, nI_clamp (show Q < 2 ^ 31 by omega), hs Q hQ]
    refine ⟨pk_in Q 4 hQ, pk_in Q 4 hQ, nm_e (nm_r (e' := nI 1) (by decide) ?_)⟩
    refine br_t (by decide) (br_f (by decide) (nm_r (e' := 1) (by decide) (nm_r (e' := 1) (by decide) ?_)))
    refine nd_107 hj hn h1 h2 (fun k hk => ?_) (H _)
    by_cases e : k = Q
    · rw [e, pk_us, if_pos rfl]
      decide
    · rw [pk_un e, if_neg e]
      exact hs k hk
  · intro m i s hi hs hw
    refine pk_le 4 i (fun z => absurd z (by omega)) (fun _ => ⟨pk_in i 4 hi, nm_e (nm_r (nI_1 i) ?_)⟩)
    rw [nI_clamp (show i < 2 ^ 31 by omega)]
    refine hw _ (fun k hk => ?_)
    by_cases e : k = i
    · rw [e, pk_us]
    · rw [pk_un e]
      exact hs k (by omega)
theorem nd_distance {post : Int32 → St2 → Prop} {f2 f3 f4 f5 : Int32} {a1 a2 a3 a4 a5 a6 a7 a8 a9 a10 : Nat → Int32} {j n Q : Nat} {l : Nat → Nat} (hj : j < 8) (hn : n ≤ 16) (hQ : Q < 4)
    (h1 : a1 j = nI n) (h2 : ∀ i, i < n → l i < 4 ∧ a2 (16 * j + i) = nI (l i)) (h4 : a4 0 = nI Q)
    (H : ∀ b6, post (nI (nd_bd l Q n)) (nI 1, nI (nd_bd l Q n), nI (nd_be l Q n), f4, f5, a1, a2, a3, a4, a5, b6, a7, a8, a9, a10)) :
    wpX_distance post (nI 1, f2, f3, f4, f5, a1, a2, a3, a4, a5, a6, a7, a8, a9, a10) (nI j) := by
  unfold wpX_distance
  dsimp only
  exact nd_isDoc hj (br_f (by decide) (nd_search hj hn hQ h1 h2 h4 H))
theorem nd_end {post : Int32 → St2 → Prop} {f2 f3 f4 f5 : Int32} {a1 a2 a3 a4 a5 a6 a7 a8 a9 a10 : Nat → Int32} {j n Q : Nat} {l : Nat → Nat} (hj : j < 8) (hn : n ≤ 16) (hQ : Q < 4)
    (h1 : a1 j = nI n) (h2 : ∀ i, i < n → l i < 4 ∧ a2 (16 * j + i) = nI (l i)) (h4 : a4 0 = nI Q)
    (H : ∀ b6, post (nI (nd_be l Q n)) (nI 1, nI (nd_bd l Q n), nI (nd_be l Q n), f4, f5, a1, a2, a3, a4, a5, b6, a7, a8, a9, a10)) :
    wpX_end post (nI 1, f2, f3, f4, f5, a1, a2, a3, a4, a5, a6, a7, a8, a9, a10) (nI j) := by
  unfold wpX_end
  dsimp only
  exact nd_isDoc hj (br_f (by decide) (nd_search hj hn hQ h1 h2 h4 H))
end
section
theorem nd_takeAsY {post : St2 → Prop} {f1 f2 f3 f4 f5 : Int32} {a1 a2 a3 a4 a5 a6 a7 a8 a9 a10 : Nat → Int32} {j n : Nat} (hj : j < 8) (hn : n ≤ 16) (h1 : a1 j = nI n)
    (H : ∀ b8, (∀ k, k < n → b8 k = a2 (16 * j + k)) → post (f1, f2, f3, f4, nI n, a1, a2, a3, a4, a5, a6, a7, b8, a9, a10)) :
    wpX_takeAsY post (f1, f2, f3, f4, f5, a1, a2, a3, a4, a5, a6, a7, a8, a9, a10) (nI j) := by
  unfold wpX_takeAsY
  dsimp only
  refine pk_loop (fun n i s => wX_takeAsY_2 post (nI j) f1 f2 f3 f4 f5 n (nI i) a1 a2 a3 a4 a5 a6 a7 s a9 a10) (fun i s => ∀ k, k < i → s k = a2 (16 * j + k)) n 0 a8 (by omega) (fun k hk => absurd hk (by omega)) ?_ ?_
  · intro m s hs
    refine ⟨pk_in j 8 hj, ?_⟩
    rw [nI_clamp (show j < 2 ^ 31 by omega), h1]
    exact pk_le n n (fun _ => ⟨pk_in j 8 hj, nm_e (H s hs)⟩) (fun z => absurd z (by omega))
  · intro m i s hi hs hw
    refine ⟨pk_in j 8 hj, ?_⟩
    rw [nI_clamp (show j < 2 ^ 31 by omega), h1]
    refine pk_le n i (fun z => absurd z (by omega)) (fun _ => ⟨pk_in (16 * j + i) 128 (by omega) (nd_ix j i), pk_in i 16 (by omega), nm_e (nm_r (nI_1 i) ?_)⟩)
    rw [nd_ix j i, nI_clamp (show 16 * j + i < 2 ^ 31 by omega), nI_clamp (show i < 2 ^ 31 by omega)]
    refine hw _ (fun k hk => ?_)
    by_cases e : k = i
    · rw [e, pk_us]
    · rw [pk_un e]
      exact hs k (by omega)
theorem nd_cell0 {post : Int32 → Prop} {f1 f2 f3 f4 f5 : Int32} {a1 a2 a3 a4 a5 a6 a7 a8 a9 a10 : Nat → Int32} {j b c0 : Nat} (hj : j = 1 ∨ j = 2) (hb : b = 1 ∨ b = 2) (h9 : a9 0 = nI c0)
    (H : post (nI (if j ≤ b then c0 + 1 else 100))) : wpX_cell post (f1, f2, f3, f4, f5, a1, a2, a3, a4, a5, a6, a7, a8, a9, a10) (nI 0) (nI j) (nI b) := by
  unfold wpX_cell
  dsimp only
  by_cases e : j ≤ b
  · rw [if_pos e] at H
    refine br_f (by rcases hj with rfl | rfl <;> rcases hb with rfl | rfl <;> decide) ?_
    refine br_t (by rcases hj with rfl | rfl <;> rcases hb with rfl | rfl <;> first | decide | omega) ⟨pk_in 0 17 (by omega), nm_e (br_t (by decide) ?_)⟩
    rw [nI_0, sb_cl0, h9, nI_1]
    exact H
  · rw [if_neg e] at H
    refine br_f (by rcases hj with rfl | rfl <;> rcases hb with rfl | rfl <;> decide) ?_
    exact br_f (by rcases hj with rfl | rfl <;> rcases hb with rfl | rfl <;> first | decide | omega) H
theorem nd_63 {post : Int32 → Prop} {z0 z1 : Int32} {f1 f2 f3 f4 f5 : Int32} {a1 a2 a3 a4 a5 a6 a7 a8 a9 a10 : Nat → Int32} {p c n0 : Nat} (hp : p < 1000) (hc : c < 1000) (hn0 : n0 < 1000) (hz : z1 + z0 = nI c) (h10 : a10 0 = nI n0)
    (H : post (nI (min (min p c) (n0 + 1)))) : wX_cell_63 post (nI 1) (nI p) z0 z1 f1 f2 f3 f4 f5 a1 a2 a3 a4 a5 a6 a7 a8 a9 a10 := by
  unfold wX_cell_63
  refine nm_r hz ⟨pk_in 0 17 (by omega), ?_⟩
  rw [nI_pred 0, nI_clamp (show 0 < 2 ^ 31 by omega), h10]
  refine nm_r (nI_1 n0) ?_
  refine pk_le p c (fun z => ?_) (fun z => ?_)
  · unfold wX_cell_92
    rw [show min p c = p by omega] at H
    refine pk_le p (n0 + 1) (fun y => ?_) (fun y => ?_)
    · rw [show min p (n0 + 1) = p by omega] at H
      exact H
    · rw [show min p (n0 + 1) = n0 + 1 by omega] at H
      exact H
  · unfold wX_cell_92
    rw [show min p c = c by omega] at H
    refine pk_le c (n0 + 1) (fun y => ?_) (fun y => ?_)
    · rw [show min c (n0 + 1) = c by omega] at H
      exact H
    · rw [show min c (n0 + 1) = n0 + 1 by omega] at H
      exact H
theorem nd_cell1 {post : Int32 → Prop} {f1 f2 f3 f4 f5 : Int32} {a1 a2 a3 a4 a5 a6 a7 a8 a9 a10 : Nat → Int32} {j b c0 c1 n0 t : Nat} (hj : j = 0 ∨ j = 1) (hb : b = 1 ∨ b = 2) (h90 : a9 0 = nI c0) (h91 : a9 1 = nI c1) (h10 : a10 0 = nI n0)
    (hc0 : c0 < 900) (hc1 : c1 < 900) (hn0 : n0 < 900) (ht : (a7 0 = a8 j ∧ t = 0) ∨ (¬ a7 0 = a8 j ∧ t = 1))
    (H : post (nI (min (min (c1 + 1) (c0 + t)) (n0 + 1)))) : wpX_cell post (f1, f2, f3, f4, f5, a1, a2, a3, a4, a5, a6, a7, a8, a9, a10) (nI 1) (nI (j + 1)) (nI b) := by
  unfold wpX_cell
  dsimp only
  refine br_f (by rcases hj with rfl | rfl <;> rcases hb with rfl | rfl <;> decide) ?_
  refine br_t (by rcases hj with rfl | rfl <;> rcases hb with rfl | rfl <;> decide) ⟨pk_in 1 17 (by omega), ?_⟩
  rw [nI_pred j, nI_pred 0, nI_clamp (show 1 < 2 ^ 31 by omega), nI_clamp (show 0 < 2 ^ 31 by omega), nI_clamp (show j < 2 ^ 31 by omega), h91, h90]
  refine nm_r (nI_1 c1) (br_f (by decide) ⟨pk_in 0 17 (by omega), pk_in 0 16 (by omega), pk_in j 16 (by omega), ?_⟩)
  rcases ht with ⟨e, rfl⟩ | ⟨e, rfl⟩
  · exact br_t e (nd_63 (c := c0 + 0) (by omega) (by omega) (by omega) (nI_add c0 0) h10 H)
  · exact br_f e (nd_63 (c := c0 + 1) (by omega) (by omega) (by omega) (nI_add c0 1) h10 H)
theorem nd_row {post : Int32 → St2 → Prop} {J : Int32 → (Nat → Int32) → (Nat → Int32) → (Nat → Int32) → (Nat → Int32) → (Nat → Int32) → (Nat → Int32) → (Nat → Int32) → (Nat → Int32) → (Nat → Int32) → (Nat → Int32) → Prop} {f1 f2 f3 : Int32} {a1 a2 a3 a4 a5 a6 a7 a8 a9 a10 : Nat → Int32} {j b c0 c1 t v0 v1 : Nat} (hj : j = 0 ∨ j = 1) (hb : b = 1 ∨ b = 2) (h90 : a9 0 = nI c0) (h91 : a9 1 = nI c1)
    (hc0 : c0 < 800) (hc1 : c1 < 800) (ht : (a7 0 = a8 j ∧ t = 0) ∨ (¬ a7 0 = a8 j ∧ t = 1))
    (hv0 : v0 = if j + 1 ≤ b then c0 + 1 else 100) (hv1 : v1 = min (min (c1 + 1) (c0 + t)) (v0 + 1))
    (H : ∀ b9 b10, b9 0 = nI v0 → b9 1 = nI v1 → J (nI (j + 2)) a1 a2 a3 a4 a5 a6 a7 a8 b9 b10) :
    ∃ fu, wX_bandDistance_45 post J (nI b) (nI (j + 1)) f1 f2 f3 (nI 1) (nI 2) fu 0 a1 a2 a3 a4 a5 a6 a7 a8 a9 a10 := by
  have hv : v0 < 900 := by rw [hv0]; split <;> omega
  refine ⟨3, br_f (by decide) (nd_cell0 (by omega) hb h90 ⟨pk_in 0 17 (by omega), nm_e (nm_r (e' := nI 1) (by decide) ?_)⟩)⟩
  rw [← hv0, sb_cl0]
  refine br_f (by decide) (nd_cell1 (n0 := v0) (t := t) hj hb h90 h91 pk_us (by omega) (by omega) hv ht ⟨pk_in 1 17 (by omega), nm_e (nm_r (e' := nI 2) (by decide) ?_)⟩)
  rw [← hv1, nI_clamp (show 1 < 2 ^ 31 by omega)]
  refine br_t (by decide) ⟨3, br_f (by decide) ⟨pk_in 0 17 (by omega), pk_in 0 17 (by omega), nm_e (nm_r (e' := nI 1) (by decide) ?_)⟩⟩
  rw [sb_cl0]
  refine br_f (by decide) ⟨pk_in 1 17 (by omega), pk_in 1 17 (by omega), nm_e (nm_r (e' := nI 2) (by decide) ?_)⟩
  rw [nI_clamp (show 1 < 2 ^ 31 by omega)]
  refine br_t (by decide) (nm_r (nI_1 (j + 1)) (H _ _ ?_ ?_))
  · rw [pk_un (by omega), pk_us, pk_un (by omega), pk_us]
  · rw [pk_us, pk_us]
/-- the distance of a row of one letter to a row of two -/
def nd_w (X A B : Nat) : Nat := if A = X ∨ B = X then 1 else 2
theorem nd_band {post : Int32 → St2 → Prop} {f1 f2 f3 : Int32} {a1 a2 a3 a4 a5 a6 a7 a8 a9 a10 : Nat → Int32} {b X A B : Nat} (hb : b = 1 ∨ b = 2) (hX : X < 4) (hA : A < 4) (hB : B < 4) (h7 : a7 0 = nI X) (h80 : a8 0 = nI A) (h81 : a8 1 = nI B)
    (H : ∀ b9 b10, post (nI (nd_w X A B)) (f1, f2, f3, nI 1, nI 2, a1, a2, a3, a4, a5, a6, a7, a8, b9, b10)) :
    wpX_bandDistance post (f1, f2, f3, nI 1, nI 2, a1, a2, a3, a4, a5, a6, a7, a8, a9, a10) (nI b) := by
  unfold wpX_bandDistance
  dsimp only
  refine ⟨3, br_f (by decide) (br_f (by rcases hb with rfl | rfl <;> decide) ⟨pk_in 0 17 (by omega), nm_e (nm_r (e' := nI 1) (by decide) ?_)⟩)⟩
  rw [sb_cl0]
  refine br_f (by decide) (br_f (by rcases hb with rfl | rfl <;> decide) ⟨pk_in 1 17 (by omega), nm_e (nm_r (e' := nI 2) (by decide) ?_)⟩)
  rw [nI_clamp (show 1 < 2 ^ 31 by omega)]
  refine br_t (by decide) ⟨3, br_f (by decide) ?_⟩
  refine nd_row (j := 0) (c0 := 0) (c1 := 1) (t := if A = X then 0 else 1) (Or.inl rfl) hb (by rw [pk_un (by omega), pk_us]; rfl) pk_us (by omega) (by omega) ?_ rfl rfl ?_
  · rw [h7, h80, nI_eq (by omega) (by omega)]
    by_cases e : A = X
    · exact Or.inl ⟨e.symm, if_pos e⟩
    · exact Or.inr ⟨fun z => e z.symm, if_neg e⟩
  intro b9 b10 g0 g1
  refine br_f (by decide) ?_
  refine nd_row (j := 1) (t := if B = X then 0 else 1) (Or.inr rfl) hb g0 g1 (by split <;> omega) (by omega) ?_ rfl rfl ?_
  · rw [h7, h81, nI_eq (by omega) (by omega)]
    by_cases e : B = X
    · exact Or.inl ⟨e.symm, if_pos e⟩
    · exact Or.inr ⟨fun z => e z.symm, if_neg e⟩
  intro c9 c10 k0 k1
  refine br_t (by decide) ⟨pk_in 1 17 (by omega), ?_⟩
  rw [nI_clamp (show 1 < 2 ^ 31 by omega), k1]
  have h := H c9 c10
  have e : ∀ z, z = nd_w X A B → nd_w X A B = z := fun z h => h.symm
  rw [e _ ?_] at h
  · exact h
  · unfold nd_w
    rcases hb with rfl | rfl <;> by_cases e1 : A = X <;> by_cases e2 : B = X <;> simp [e1, e2]
theorem nd_wholeDistance {post : Int32 → St2 → Prop} {f1 f2 f3 : Int32} {a1 a2 a3 a4 a5 a6 a7 a8 a9 a10 : Nat → Int32} {X A B : Nat} (hX : X < 4) (hA : A < 4) (hB : B < 4) (h7 : a7 0 = nI X) (h80 : a8 0 = nI A) (h81 : a8 1 = nI B)
    (H : ∀ b9 b10, post (nI (nd_w X A B)) (f1, f2, f3, nI 1, nI 2, a1, a2, a3, a4, a5, a6, a7, a8, b9, b10)) :
    wpX_wholeDistance post (f1, f2, f3, nI 1, nI 2, a1, a2, a3, a4, a5, a6, a7, a8, a9, a10) := by
  unfold wpX_wholeDistance
  dsimp only
  refine br_t (by decide) ?_
  unfold wX_wholeDistance_32
  refine br_f (by decide) ⟨2, br_f (by decide) ?_⟩
  refine nd_band (b := 1) (Or.inl rfl) hX hA hB h7 h80 h81 (fun b9 b10 => ?_)
  have hw : nd_w X A B ≤ 2 := by unfold nd_w; split <;> omega
  refine pk_lt 1 (nd_w X A B) (fun z => nm_r (e' := nI 2) (by decide) (nm_r (e' := nI 1) (by decide) ?_)) (fun z => H b9 b10)
  refine br_f (by decide) ?_
  refine nd_band (b := 2) (Or.inr rfl) hX hA hB h7 h80 h81 (fun c9 c10 => ?_)
  exact pk_lt 2 (nd_w X A B) (fun z => absurd z (by omega)) (fun z => H c9 c10)
theorem nd_whole {post : Int32 → St2 → Prop} {f2 f3 f4 f5 : Int32} {a1 a2 a3 a4 a5 a6 a7 a8 a9 a10 : Nat → Int32} {j X A B : Nat} (hj : j < 8) (hX : X < 4) (hA : A < 4) (hB : B < 4) (h1 : a1 j = nI 2) (h4 : a4 0 = nI X) (h20 : a2 (16 * j) = nI A) (h21 : a2 (16 * j + 1) = nI B)
    (H : ∀ b7 b8 b9 b10, post (nI (nd_w X A B)) (nI 1, f2, f3, nI 1, nI 2, a1, a2, a3, a4, a5, a6, b7, b8, b9, b10)) :
    wpX_whole post (nI 1, f2, f3, f4, f5, a1, a2, a3, a4, a5, a6, a7, a8, a9, a10) (nI j) := by
  unfold wpX_whole
  dsimp only
  refine nd_isDoc hj (br_f (by decide) ⟨2, br_f (by decide) ⟨pk_in 0 8 (by omega), pk_in 0 16 (by omega), nm_e (nm_r (e' := nI 1) (by decide) ?_)⟩⟩)
  rw [sb_cl0]
  refine br_t (by decide) (nd_takeAsY hj (show 2 ≤ 16 by omega) h1 (fun b8 h8 => ?_))
  exact nd_wholeDistance hX hA hB (by rw [pk_us]; exact h4) (by rw [h8 0 (by omega)]; exact h20) (by rw [h8 1 (by omega)]; exact h21) (fun b9 b10 => H _ b8 b9 b10)
theorem nd_between {post : Int32 → St2 → Prop} {f1 f2 f3 f4 f5 : Int32} {a1 a2 a3 a4 a5 a6 a7 a8 a9 a10 : Nat → Int32} {e j X A B : Nat} (he : e < 8) (hj : j < 8) (hX : X < 4) (hA : A < 4) (hB : B < 4) (h1e : a1 e = nI 1) (h1 : a1 j = nI 2) (h2e : a2 (16 * e) = nI X) (h20 : a2 (16 * j) = nI A) (h21 : a2 (16 * j + 1) = nI B)
    (H : ∀ b7 b8 b9 b10, post (nI (nd_w X A B)) (f1, f2, f3, nI 1, nI 2, a1, a2, a3, a4, a5, a6, b7, b8, b9, b10)) :
    wpX_between post (f1, f2, f3, f4, f5, a1, a2, a3, a4, a5, a6, a7, a8, a9, a10) (nI e) (nI j) := by
  unfold wpX_between
  dsimp only
  refine nd_isDoc he (br_f (by decide) (nd_isDoc hj (br_f (by decide) ⟨2, pk_in e 8 he, ?_⟩)))
  rw [nI_clamp (show e < 2 ^ 31 by omega), h1e]
  refine br_f (by decide) ⟨pk_in (16 * e + 0) 128 (by omega) (nd_ix e 0), pk_in 0 16 (by omega), nm_e (nm_r (e' := nI 1) (by decide) ?_)⟩
  rw [sb_cl0, ← nI_0, nd_ix e 0, nI_clamp (show 16 * e + 0 < 2 ^ 31 by omega)]
  refine ⟨pk_in e 8 he, ?_⟩
  rw [nI_clamp (show e < 2 ^ 31 by omega), h1e]
  refine br_t (by decide) ⟨pk_in e 8 he, nm_e (nd_takeAsY hj (show 2 ≤ 16 by omega) h1 (fun b8 h8 => ?_))⟩
  exact nd_wholeDistance hX hA hB (by rw [pk_us]; exact h2e) (by rw [h8 0 (by omega)]; exact h20) (by rw [h8 1 (by omega)]; exact h21) (fun b9 b10 => H _ b8 b9 b10)
end
section
theorem nd_shared {post : Int32 → Prop} {f1 f2 f3 f4 f5 : Int32} {a1 a2 a3 a4 a5 a6 a7 a8 a9 a10 : Nat → Int32} {j : Nat} (hj : j < 8) (h3 : ∀ k, k < 128 → 0 ≤ a3 k) (h5 : ∀ k, k < 16 → a5 k = 0) (H : post 0) :
    wpX_sharedPairs post (f1, f2, f3, f4, f5, a1, a2, a3, a4, a5, a6, a7, a8, a9, a10) (nI j) := by
  unfold wpX_sharedPairs
  dsimp only
  refine pk_loop (σ := Unit) (fun n i _ => wX_sharedPairs_4 post (nI j) f1 f2 f3 f4 f5 a1 a2 a3 a4 a5 a6 a7 a8 a9 a10 n 0 (nI i)) (fun _ _ => True) 16 0 () (by omega) trivial ?_ ?_
  · intro m _ _
    exact pk_le 16 16 (fun _ => H) (fun z => absurd z (by omega))
  · intro m i _ hi _ hw
    refine pk_le 16 i (fun z => absurd z (by omega)) (fun _ => ⟨pk_in (16 * j + i) 128 (by omega) (nd_ix j i), ?_⟩)
    rw [nd_ix j i, nI_clamp (show 16 * j + i < 2 ^ 31 by omega), nI_clamp (show i < 2 ^ 31 by omega), h5 i hi]
    exact nm_e ⟨pk_in i 16 hi, br_t (h3 _ (by omega)) ⟨pk_in i 16 hi, nm_r (e' := 0) (by decide) (nm_r (nI_1 i) (hw () trivial))⟩⟩
theorem nd_pairs {post : Int32 → Prop} {f1 f2 f3 f4 f5 : Int32} {a1 a2 a3 a4 a5 a6 a7 a8 a9 a10 : Nat → Int32} {j : Nat} (hj : j < 8) (h3 : ∀ k, k < 128 → 0 ≤ a3 k) (h5 : ∀ k, k < 16 → a5 k = 0) (H : post 0) :
    wpX_pairs post (f1, f2, f3, f4, f5, a1, a2, a3, a4, a5, a6, a7, a8, a9, a10) (nI j) := by
  unfold wpX_pairs
  dsimp only
  exact nd_isDoc hj (br_f (by decide) (nd_shared hj h3 h5 H))
theorem nd_may {post : Int32 → Prop} {f2 f3 f4 f5 : Int32} {a1 a2 a3 a4 a5 a6 a7 a8 a9 a10 : Nat → Int32} {j v : Nat} (hj : j < 8) (h3 : ∀ k, k < 128 → 0 ≤ a3 k) (h5 : ∀ k, k < 16 → a5 k = 0) (hv : v ≤ 1)
    (H : post (nI v)) : wpX_mayBeWithin post (nI 1, f2, f3, f4, f5, a1, a2, a3, a4, a5, a6, a7, a8, a9, a10) (nI j) (nI v - 1) := by
  unfold wpX_mayBeWithin
  dsimp only
  rcases (show v = 0 ∨ v = 1 by omega) with rfl | rfl
  · exact br_f (by decide) H
  · exact br_t (by decide) (br_t (by decide) (nd_shared hj h3 h5 (br_f (by decide) H)))
/-- the best document and the least distance ahead of i: h j = 0 says that j's distance is 1, else it is 0 -/
def nd_P (h : Nat → Nat) : Nat → Nat × Nat
  | 0 => (0, 1)
  | i + 1 => if (nd_P h i).2 = 1 ∧ h i ≠ 0 then (i, 0) else nd_P h i
theorem nd_P_in (h : Nat → Nat) (i : Nat) : ((nd_P h i).2 = 1 ∧ (nd_P h i).1 = 0 ∧ ∀ j, j < i → h j = 0) ∨ ((nd_P h i).2 = 0 ∧ (nd_P h i).1 < i ∧ h (nd_P h i).1 ≠ 0 ∧ ∀ j, j < (nd_P h i).1 → h j = 0) := by
  induction i with
  | zero => exact Or.inl ⟨rfl, rfl, fun j hj => absurd hj (by omega)⟩
  | succ i ih =>
    by_cases c : (nd_P h i).2 = 1 ∧ h i ≠ 0
    · have e : nd_P h (i + 1) = (i, 0) := if_pos c
      rw [e]
      rcases ih with ⟨_, _, g⟩ | ⟨g, _⟩
      · exact Or.inr ⟨rfl, Nat.lt_succ_self i, c.2, g⟩
      · omega
    · have e : nd_P h (i + 1) = nd_P h i := if_neg c
      rw [e]
      rcases ih with ⟨g1, g2, g3⟩ | ⟨g1, g2, g3⟩
      · refine Or.inl ⟨g1, g2, fun j hj => ?_⟩
        by_cases ej : j = i
        · rw [ej]
          by_cases z : h i = 0
          · exact z
          · exact absurd ⟨g1, z⟩ c
        · exact g3 j (by omega)
      · exact Or.inr ⟨g1, by omega, g3⟩
theorem nd_nearest {post : Int32 → St2 → Prop} {f2 f3 f4 f5 : Int32} {a1 a2 a3 a4 a5 a6 a7 a8 a9 a10 : Nat → Int32} {Q : Nat} {l : Nat → Nat → Nat} {n h : Nat → Nat} (hQ : Q < 4)
    (hn : ∀ j, j < 8 → n j ≤ 16) (h1 : ∀ j, j < 8 → a1 j = nI (n j)) (h2 : ∀ j, j < 8 → ∀ i, i < n j → l j i < 4 ∧ a2 (16 * j + i) = nI (l j i)) (h4 : a4 0 = nI Q)
    (h3 : ∀ k, k < 128 → 0 ≤ a3 k) (h5 : ∀ k, k < 16 → a5 k = 0) (hh : ∀ j, j < 8 → h j = nd_be (l j) Q (n j))
    (H : ∀ g2 g3 b6, post (nI (nd_P h 8).1) (nI 1, g2, g3, f4, f5, a1, a2, a3, a4, a5, b6, a7, a8, a9, a10)) :
    wpX_nearest post (nI 1, f2, f3, f4, f5, a1, a2, a3, a4, a5, a6, a7, a8, a9, a10) := by
  have hbd : ∀ j, j < 8 → nd_bd (l j) Q (n j) = if h j = 0 then 1 else 0 := fun j hj => by rw [hh j hj]; rfl
  unfold wpX_nearest
  dsimp only
  refine nd_search (j := 0) (by omega) (hn 0 (by omega)) hQ (h1 0 (by omega)) (h2 0 (by omega)) h4 (fun b6 => ?_)
  have start : ∃ fu, wX_nearest_14 post fu (nI (nd_P h 1).1) (nI (nd_P h 1).2) (nI 1) (nI 1) (nI (nd_bd (l 0) Q (n 0))) (nI (nd_be (l 0) Q (n 0))) f4 f5 a1 a2 a3 a4 a5 b6 a7 a8 a9 a10 := by
    refine pk_loop (fun n i s => wX_nearest_14 post n (nI (nd_P h i).1) (nI (nd_P h i).2) (nI i) (nI 1) s.1 s.2.1 f4 f5 a1 a2 a3 a4 a5 s.2.2 a7 a8 a9 a10) (fun _ _ => True) 8 1 (nI (nd_bd (l 0) Q (n 0)), nI (nd_be (l 0) Q (n 0)), b6) (by omega) trivial ?_ ?_
    · intro m s _
      exact pk_le 8 8 (fun _ => H _ _ _) (fun z => absurd z (by omega))
    · intro m i s hi _ hw
      refine pk_le 8 i (fun z => absurd z (by omega)) (fun _ => ?_)
      have hp := nd_P_in h i
      have hv : (nd_P h i).2 ≤ 1 := by omega
      refine nd_may hi h3 h5 hv ?_
      refine pk_eq (nd_P h i).2 0 (fun z => nm_r (nI_1 i) ?_) (fun z => ?_)
      · have e : nd_P h (i + 1) = nd_P h i := if_neg (fun g => by omega)
        have t := hw s trivial
        rw [e] at t
        exact t
      · refine nd_search hi (hn i hi) hQ (h1 i hi) (h2 i hi) h4 (fun c6 => ?_)
        have hv1 : (nd_P h i).2 = 1 := by omega
        have t := hw (nI (nd_bd (l i) Q (n i)), nI (nd_be (l i) Q (n i)), c6) trivial
        have hb : nd_bd (l i) Q (n i) ≤ 1 := by rw [hbd i hi]; split <;> omega
        refine pk_le (nd_P h i).2 (nd_bd (l i) Q (n i)) (fun y => nm_r (nI_1 i) ?_) (fun y => nm_r (nI_1 i) ?_)
        · have e : nd_P h (i + 1) = nd_P h i := if_neg (fun g => by
            rw [hbd i hi, if_neg g.2] at y
            omega)
          rw [e] at t
          exact t
        · have z0 : h i ≠ 0 := fun g => by
            rw [hbd i hi, if_pos g] at y
            omega
          have e : nd_P h (i + 1) = (i, 0) := if_pos ⟨hv1, z0⟩
          have e0 : nd_bd (l i) Q (n i) = 0 := by rw [hbd i hi, if_neg z0]
          rw [e] at t
          rw [e0] at t ⊢
          exact t
  have e1 : nd_P h 1 = (0, nd_bd (l 0) Q (n 0)) := by
    by_cases g : h 0 = 0
    · have e2 : nd_P h 1 = nd_P h 0 := if_neg (fun z => z.2 g)
      rw [hbd 0 (by omega), e2, if_pos g]
      rfl
    · have e2 : nd_P h 1 = (0, 0) := if_pos ⟨rfl, g⟩
      rw [hbd 0 (by omega), e2, if_neg g]
  rw [e1] at start
  exact start
end
section
/-- what holds of the documents and the query from the typing on: D holds A, B; E holds C; the query is Q -/
def nd_K (D E A B C Q : Nat) (a1 a2 a3 a4 a5 : Nat → Int32) : Prop :=
  (D < 8 ∧ E < 8 ∧ D ≠ E) ∧ (A < 4 ∧ B < 4 ∧ C < 4 ∧ Q < 4) ∧ a1 D = nI 2 ∧ a1 E = nI 1 ∧ (∀ j, j < 8 → j ≠ D → j ≠ E → a1 j = nI 0) ∧
  a2 (16 * D) = nI A ∧ a2 (16 * D + 1) = nI B ∧ a2 (16 * E) = nI C ∧ (∀ k, k < 128 → 0 ≤ a3 k) ∧ a4 0 = nI Q ∧ (∀ k, k < 16 → a5 k = 0)
/-- the letters and the lengths of all the documents -/
def nd_l (D A B C : Nat) (j i : Nat) : Nat := if j = D then (if i = 0 then A else B) else C
def nd_n (D E j : Nat) : Nat := if j = D then 2 else if j = E then 1 else 0
def nd_h (D E A B C Q j : Nat) : Nat := nd_be (nd_l D A B C j) Q (nd_n D E j)
def nd_near (D E A B C Q : Nat) : Nat := if A = Q ∨ B = Q then (if C = Q then (if E ≤ D then E else D) else D) else if C = Q then E else 0
theorem nd_be1 (l : Nat → Nat) (Q : Nat) : nd_be l Q 1 = if l 0 = Q then 1 else 0 := by
  by_cases e : l 0 = Q
  · have e2 : nd_be l Q 1 = 1 := if_pos ⟨rfl, e⟩
    rw [e2, if_pos e]
  · have e2 : nd_be l Q 1 = nd_be l Q 0 := if_neg (fun z => e z.2)
    rw [e2, if_neg e]
    rfl
theorem nd_be2 (l : Nat → Nat) (Q : Nat) : nd_be l Q 2 = if l 0 = Q then 1 else if l 1 = Q then 2 else 0 := by
  show (if nd_be l Q 1 = 0 ∧ l 1 = Q then 2 else nd_be l Q 1) = _
  rw [nd_be1]
  by_cases e : l 0 = Q
  · rw [if_pos e, if_pos e, if_neg (fun z => absurd z.1 (by omega))]
  · rw [if_neg e, if_neg e]
    by_cases e2 : l 1 = Q
    · rw [if_pos ⟨rfl, e2⟩, if_pos e2]
    · rw [if_neg (fun z => e2 z.2), if_neg e2]
theorem nd_lD (D A B C : Nat) : nd_l D A B C D 0 = A ∧ nd_l D A B C D 1 = B := by
  unfold nd_l
  exact ⟨by rw [if_pos rfl, if_pos rfl], by rw [if_pos rfl, if_neg (by omega)]⟩
theorem nd_hD (D E A B C Q : Nat) : nd_h D E A B C Q D = if A = Q then 1 else if B = Q then 2 else 0 := by
  have e : nd_n D E D = 2 := if_pos rfl
  unfold nd_h
  rw [e, nd_be2, (nd_lD D A B C).1, (nd_lD D A B C).2]
theorem nd_hE {D E : Nat} (A B C Q : Nat) (h : D ≠ E) : nd_h D E A B C Q E = if C = Q then 1 else 0 := by
  have e : nd_n D E E = 1 := by unfold nd_n; rw [if_neg (fun z => h z.symm), if_pos rfl]
  have e2 : nd_l D A B C E 0 = C := if_neg (fun z => h z.symm)
  unfold nd_h
  rw [e, nd_be1, e2]
theorem nd_hO {D E j : Nat} (A B C Q : Nat) (h : j ≠ D) (h' : j ≠ E) : nd_h D E A B C Q j = 0 := by
  have e : nd_n D E j = 0 := by unfold nd_n; rw [if_neg h, if_neg h']
  unfold nd_h
  rw [e]
  rfl
theorem nd_pure {D E A B C Q : Nat} (hD : D < 8) (hE : E < 8) (hDE : D ≠ E) : (nd_P (nd_h D E A B C Q) 8).1 = nd_near D E A B C Q := by
  have g := nd_P_in (nd_h D E A B C Q) 8
  have kD := nd_hD D E A B C Q
  have kE := nd_hE A B C Q hDE
  unfold nd_near
  rcases g with ⟨_, g2, g3⟩ | ⟨_, g2, g3, g4⟩
  · have zD := g3 D hD
    have zE := g3 E hE
    rw [kD] at zD
    rw [kE] at zE
    have n1 : ¬ A = Q := fun z => by rw [if_pos z] at zD; omega
    rw [if_neg n1] at zD
    have n2 : ¬ B = Q := fun z => by rw [if_pos z] at zD; omega
    have n3 : ¬ C = Q := fun z => by rw [if_pos z] at zE; omega
    rw [if_neg (fun z => z.elim n1 n2), if_neg n3]
    exact g2
  · generalize (nd_P (nd_h D E A B C Q) 8).1 = k at g2 g3 g4 ⊢
    have hk : k = D ∨ k = E := by
      by_cases a : k = D
      · exact Or.inl a
      · by_cases b : k = E
        · exact Or.inr b
        · exact absurd (nd_hO A B C Q a b) g3
    have hitD : (A = Q ∨ B = Q) → k ≤ D := fun z => by
      rcases Nat.lt_or_ge D k with y | y
      · have w := g4 D y
        rw [kD] at w
        rcases z with z | z
        · rw [if_pos z] at w; omega
        · rw [if_pos z] at w
          split at w <;> omega
      · exact y
    have hitE : C = Q → k ≤ E := fun z => by
      rcases Nat.lt_or_ge E k with y | y
      · have w := g4 E y
        rw [kE, if_pos z] at w
        omega
      · exact y
    have noD : k = D → A = Q ∨ B = Q := fun z => by
      rw [z, kD] at g3
      by_cases a : A = Q
      · exact Or.inl a
      · by_cases b : B = Q
        · exact Or.inr b
        · rw [if_neg a, if_neg b] at g3
          exact absurd rfl g3
    have noE : k = E → C = Q := fun z => by
      rw [z, kE] at g3
      by_cases a : C = Q
      · exact a
      · rw [if_neg a] at g3
        exact absurd rfl g3
    by_cases a : A = Q ∨ B = Q
    · rw [if_pos a]
      have := hitD a
      by_cases c : C = Q
      · have := hitE c
        rw [if_pos c]
        split <;> omega
      · rw [if_neg c]
        rcases hk with z | z
        · exact z
        · exact absurd (noE z) c
    · rw [if_neg a]
      have kk : k = E := hk.elim (fun z => absurd (noD z) a) id
      rw [if_pos (noE kk)]
      exact kk
theorem nd_306 {post : Int32 → St0 → Prop} {mc ms kc ks : Nat} {f2 f3 f4 f5 : Int32} {a1 a2 a3 a4 a5 a6 a7 a8 a9 a10 : Nat → Int32} {D E A B C Q z : Nat} (K : nd_K D E A B C Q a1 a2 a3 a4 a5) (hz : z = nd_near D E A B C Q) (H : post 1 ()) :
    wL_lawOf_306 post mc ms (nI z) kc ks (nI 1) f2 f3 f4 f5 a1 a2 a3 a4 a5 a6 a7 a8 a9 a10 := by
  obtain ⟨⟨hD, hE, hDE⟩, ⟨hA, hB, hC, hQ⟩, k1, k2, k3, k4, k5, k6, k7, k8, k9⟩ := K
  unfold wL_lawOf_306
  refine nd_nearest (Q := Q) (l := nd_l D A B C) (n := nd_n D E) (h := nd_h D E A B C Q) hQ ?_ ?_ ?_ k8 k7 k9 (fun j _ => rfl) ?_
  · intro j hj
    unfold nd_n
    split
    · omega
    · split <;> omega
  · intro j hj
    unfold nd_n
    by_cases a : j = D
    · rw [if_pos a, a]; exact k1
    · rw [if_neg a]
      by_cases b : j = E
      · rw [if_pos b, b]; exact k2
      · rw [if_neg b]; exact k3 j hj a b
  · intro j hj i hi
    unfold nd_n at hi
    by_cases a : j = D
    · rw [if_pos a] at hi
      rw [a]
      rcases (show i = 0 ∨ i = 1 by omega) with rfl | rfl
      · rw [(nd_lD D A B C).1]; exact ⟨hA, k4⟩
      · rw [(nd_lD D A B C).2]; exact ⟨hB, k5⟩
    · rw [if_neg a] at hi
      by_cases b : j = E
      · rw [if_pos b] at hi
        have i0 : i = 0 := by omega
        have e : nd_l D A B C j i = C := if_neg a
        rw [e, b, i0]
        exact ⟨hC, k6⟩
      · rw [if_neg b] at hi
        omega
  · intro g2 g3 b6
    refine br_t ?_ H
    rw [nd_pure hD hE hDE, hz]
end
section
theorem nd_252 {post : Int32 → St0 → Prop} {mc ms kc ks : Nat} {f2 f3 f4 f5 : Int32} {a1 a2 a3 a4 a5 a6 a7 a8 a9 a10 : Nat → Int32} {D E A B C Q s1 s2 s3 : Nat} (K : nd_K D E A B C Q a1 a2 a3 a4 a5)
    (h1 : s1 = if A = Q then 1 else 0) (h2 : s2 = if B = Q then 1 else 0) (h3 : s3 = if C = Q then 1 else 0) (H : post 1 ()) :
    wL_lawOf_252 post mc ms (nI D) (nI E) (nI s1) (nI s2) (nI s3) kc ks (nI 1) f2 f3 f4 f5 a1 a2 a3 a4 a5 a6 a7 a8 a9 a10 := by
  have hD : D < 8 := K.1.1
  have hE : E < 8 := K.1.2.1
  have b1 : s1 ≤ 1 := by rw [h1]; split <;> omega
  have b2 : s2 ≤ 1 := by rw [h2]; split <;> omega
  have b3 : s3 ≤ 1 := by rw [h3]; split <;> omega
  have q1 : ¬ s1 = 0 → A = Q := fun z => by
    by_cases e : A = Q
    · exact e
    · exact absurd (h1.trans (if_neg e)) z
  have q1' : s1 = 0 → ¬ A = Q := fun z e => by rw [if_pos e] at h1; omega
  have q2 : ¬ s2 = 0 → B = Q := fun z => by
    by_cases e : B = Q
    · exact e
    · exact absurd (h2.trans (if_neg e)) z
  have q2' : s2 = 0 → ¬ B = Q := fun z e => by rw [if_pos e] at h2; omega
  have q3 : ¬ s3 = 0 → C = Q := fun z => by
    by_cases e : C = Q
    · exact e
    · exact absurd (h3.trans (if_neg e)) z
  have q3' : s3 = 0 → ¬ C = Q := fun z e => by rw [if_pos e] at h3; omega
  have go280 : ∀ w, w = (if E ≤ D then E else D) → (A = Q ∨ B = Q) → wL_lawOf_280 post mc ms (nI D) (nI s3) (nI w) kc ks (nI 1) f2 f3 f4 f5 a1 a2 a3 a4 a5 a6 a7 a8 a9 a10 := by
    intro w hw hit
    unfold wL_lawOf_280
    refine pk_eq s3 0 (fun z => ?_) (fun z => ?_)
    · refine nd_306 K ?_ H
      unfold nd_near
      rw [if_pos hit, if_neg (q3' z)]
    · refine nd_306 K ?_ H
      unfold nd_near
      rw [if_pos hit, if_pos (q3 z)]
      exact hw
  have go268 : ∀ w, w = (if E ≤ D then E else D) → wL_lawOf_268 post mc ms (nI D) (nI E) (nI s1) (nI s2) (nI s3) (nI w) kc ks (nI 1) f2 f3 f4 f5 a1 a2 a3 a4 a5 a6 a7 a8 a9 a10 := by
    intro w hw
    unfold wL_lawOf_268
    refine pk_eq s1 0 (fun z => ?_) (fun z => go280 w hw (Or.inl (q1 z)))
    refine pk_eq s2 0 (fun y => ?_) (fun y => go280 w hw (Or.inr (q2 y)))
    have hit : ¬ (A = Q ∨ B = Q) := fun t => t.elim (q1' z) (q2' y)
    refine pk_eq s3 0 (fun x => ?_) (fun x => ?_)
    · refine nd_306 (z := 0) K ?_ H
      unfold nd_near
      rw [if_neg hit, if_neg (q3' x)]
    · refine nd_306 K ?_ H
      unfold nd_near
      rw [if_neg hit, if_pos (q3 x)]
  unfold wL_lawOf_252
  exact pk_le E D (fun z => go268 E (if_pos z).symm) (fun z => go268 D (if_neg (by omega)).symm)
theorem nd_223 {post : Int32 → St0 → Prop} {mc ms kc ks : Nat} {p2 p3 : Int32} {f2 f3 f4 f5 : Int32} {a1 a2 a3 a4 a5 a6 a7 a8 a9 a10 : Nat → Int32} {D E A B C Q s1 s2 : Nat} {z0 z1 : Int32} (K : nd_K D E A B C Q a1 a2 a3 a4 a5)
    (e2 : p2 &&& 3 = nI C) (e3 : p3 &&& 3 = nI Q)
    (h1 : s1 = if A = Q then 1 else 0) (h2 : s2 = if B = Q then 1 else 0) (hz : z1 = z0) (H : post 1 ()) :
    wL_lawOf_223 post mc ms p2 p3 (nI D) (nI E) (nI s1) (nI s2) z0 z1 kc ks (nI 1) f2 f3 f4 f5 a1 a2 a3 a4 a5 a6 a7 a8 a9 a10 := by
  have K' := K
  obtain ⟨⟨hD, hE, hDE⟩, ⟨hA, hB, hC, hQ⟩, k1, k2, k3, k4, k5, k6, k7, k8, k9⟩ := K'
  unfold wL_lawOf_223
  refine br_t hz (nd_pairs hD k7 k9 (br_t rfl ?_))
  exact pk_eq C Q (fun z => nd_252 (s3 := 1) K h1 h2 (if_pos z).symm H) (fun z => nd_252 (s3 := 0) K h1 h2 (if_neg z).symm H) e2 e3
theorem nd_202 {post : Int32 → St0 → Prop} {mc ms kc ks : Nat} {p2 p3 : Int32} {f2 f3 f4 f5 : Int32} {a1 a2 a3 a4 a5 a6 a7 a8 a9 a10 : Nat → Int32} {D E A B C Q s1 s2 s4 : Nat} (K : nd_K D E A B C Q a1 a2 a3 a4 a5)
    (e2 : p2 &&& 3 = nI C) (e3 : p3 &&& 3 = nI Q)
    (h1 : s1 = if A = Q then 1 else 0) (h2 : s2 = if B = Q then 1 else 0) (h4 : s4 = if A = C ∨ B = C then 1 else 0) (H : post 1 ()) :
    wL_lawOf_202 post mc ms p2 p3 (nI D) (nI E) (nI s1) (nI s2) (nI s4) kc ks (nI 1) f2 f3 f4 f5 a1 a2 a3 a4 a5 a6 a7 a8 a9 a10 := by
  have K' := K
  obtain ⟨⟨hD, hE, hDE⟩, ⟨hA, hB, hC, hQ⟩, k1, k2, k3, k4, k5, k6, k7, k8, k9⟩ := K'
  unfold wL_lawOf_202
  refine nd_between hE hD hC hA hB k2 k1 k6 k4 k5 (fun b7 b8 b9 b10 => ?_)
  have b4 : s4 ≤ 1 := by rw [h4]; split <;> omega
  refine pk_eq s4 0 (fun z => nd_223 K e2 e3 h1 h2 ?_ H) (fun z => nd_223 K e2 e3 h1 h2 ?_ H)
  · have n : ¬ (A = C ∨ B = C) := fun t => by rw [if_pos t] at h4; omega
    have e : nd_w C A B = 2 := if_neg n
    rw [e]
    rfl
  · have n : A = C ∨ B = C := by
      by_cases t : A = C ∨ B = C
      · exact t
      · exact absurd (h4.trans (if_neg t)) z
    have e : nd_w C A B = 1 := if_pos n
    rw [e]
    rfl
theorem nd_174 {post : Int32 → St0 → Prop} {mc ms kc ks : Nat} {p0 p1 p2 p3 : Int32} {f2 f3 f4 f5 : Int32} {a1 a2 a3 a4 a5 a6 a7 a8 a9 a10 : Nat → Int32} {D E A B C Q s1 s2 : Nat} {z0 z1 : Int32} (K : nd_K D E A B C Q a1 a2 a3 a4 a5)
    (e0 : p0 &&& 3 = nI A) (e1 : p1 &&& 3 = nI B) (e2 : p2 &&& 3 = nI C) (e3 : p3 &&& 3 = nI Q)
    (h1 : s1 = if A = Q then 1 else 0) (h2 : s2 = if B = Q then 1 else 0) (hz : z1 = z0) (H : post 1 ()) :
    wL_lawOf_174 post mc ms p0 p1 p2 p3 (nI D) (nI E) (nI s1) (nI s2) z0 z1 kc ks (nI 1) f2 f3 f4 f5 a1 a2 a3 a4 a5 a6 a7 a8 a9 a10 := by
  have hA : A < 4 := K.2.1.1
  have hB : B < 4 := K.2.1.2.1
  have hC : C < 4 := K.2.1.2.2.1
  unfold wL_lawOf_174
  refine br_t hz ?_
  refine pk_eq A C (fun z => ?_) (fun z => ?_) e0 e2
  · unfold wL_lawOf_197
    exact nd_202 (s4 := 1) K e2 e3 h1 h2 (if_pos (Or.inl z)).symm H
  · refine pk_eq B C (fun y => ?_) (fun y => ?_) e1 e2
    · unfold wL_lawOf_197
      exact nd_202 (s4 := 1) K e2 e3 h1 h2 (if_pos (Or.inr y)).symm H
    · exact nd_202 (s4 := 0) K e2 e3 h1 h2 (if_neg (fun t => t.elim z y)).symm H
theorem nd_147 {post : Int32 → St0 → Prop} {mc ms kc ks : Nat} {p0 p1 p2 p3 : Int32} {f2 f3 f4 f5 : Int32} {a1 a2 a3 a4 a5 a6 a7 a8 a9 a10 : Nat → Int32} {D E A B C Q s1 s2 : Nat} {z0 z1 : Int32} (K : nd_K D E A B C Q a1 a2 a3 a4 a5)
    (e0 : p0 &&& 3 = nI A) (e1 : p1 &&& 3 = nI B) (e2 : p2 &&& 3 = nI C) (e3 : p3 &&& 3 = nI Q)
    (h1 : s1 = if A = Q then 1 else 0) (h2 : s2 = if B = Q then 1 else 0) (hz : z1 = z0) (H : post 1 ()) :
    wL_lawOf_147 post mc ms p0 p1 p2 p3 (nI D) (nI E) (nI s1) (nI s2) z0 z1 kc ks (nI 1) f2 f3 f4 f5 a1 a2 a3 a4 a5 a6 a7 a8 a9 a10 := by
  have K' := K
  obtain ⟨⟨hD, hE, hDE⟩, ⟨hA, hB, hC, hQ⟩, k1, k2, k3, k4, k5, k6, k7, k8, k9⟩ := K'
  have b1 : s1 ≤ 1 := by rw [h1]; split <;> omega
  have b2 : s2 ≤ 1 := by rw [h2]; split <;> omega
  unfold wL_lawOf_147
  refine br_t hz (nd_whole hD hQ hA hB k1 k8 k4 k5 (fun b7 b8 b9 b10 => ?_))
  by_cases a : A = Q
  · have e : nd_w Q A B = 1 := if_pos (Or.inl a)
    rw [if_pos a] at h1
    rw [e]
    refine pk_eq s1 0 (fun z => absurd z (by omega)) (fun z => ?_)
    unfold wL_lawOf_169
    exact nd_174 K e0 e1 e2 e3 (h1.trans (if_pos a).symm) h2 rfl H
  · have h1' := h1
    rw [if_neg a] at h1
    refine pk_eq s1 0 (fun z => ?_) (fun z => absurd h1 z)
    by_cases b : B = Q
    · have e : nd_w Q A B = 1 := if_pos (Or.inr b)
      have h2' := h2
      rw [if_pos b] at h2
      rw [e]
      refine pk_eq s2 0 (fun z => absurd z (by omega)) (fun z => ?_)
      unfold wL_lawOf_169
      exact nd_174 K e0 e1 e2 e3 h1' h2' rfl H
    · have e : nd_w Q A B = 2 := if_neg (fun t => t.elim a b)
      have h2' := h2
      rw [if_neg b] at h2
      rw [e]
      refine pk_eq s2 0 (fun z => ?_) (fun z => absurd h2 z)
      exact nd_174 K e0 e1 e2 e3 h1' h2' rfl H
theorem nd_118 {post : Int32 → St0 → Prop} {mc ms kc ks : Nat} {p0 p1 p2 p3 : Int32} {f2 f3 f4 f5 : Int32} {a1 a2 a3 a4 a5 a6 a7 a8 a9 a10 : Nat → Int32} {D E A B C Q s1 s2 : Nat} {z0 z1 : Int32} (K : nd_K D E A B C Q a1 a2 a3 a4 a5)
    (e0 : p0 &&& 3 = nI A) (e1 : p1 &&& 3 = nI B) (e2 : p2 &&& 3 = nI C) (e3 : p3 &&& 3 = nI Q)
    (h1 : s1 = if A = Q then 1 else 0) (h2 : s2 = if B = Q then 1 else 0) (hz : z1 = z0) (H : post 1 ()) :
    wL_lawOf_118 post mc ms p0 p1 p2 p3 (nI D) (nI E) (nI s1) (nI s2) z0 z1 kc ks (nI 1) f2 f3 f4 f5 a1 a2 a3 a4 a5 a6 a7 a8 a9 a10 := by
  have K' := K
  obtain ⟨⟨hD, hE, hDE⟩, ⟨hA, hB, hC, hQ⟩, k1, k2, k3, k4, k5, k6, k7, k8, k9⟩ := K'
  have b1 : s1 ≤ 1 := by rw [h1]; split <;> omega
  have b2 : s2 ≤ 1 := by rw [h2]; split <;> omega
  have hl : ∀ i, i < 2 → nd_l D A B C D i < 4 ∧ a2 (16 * D + i) = nI (nd_l D A B C D i) := by
    intro i hi
    rcases (show i = 0 ∨ i = 1 by omega) with rfl | rfl
    · rw [(nd_lD D A B C).1]; exact ⟨hA, k4⟩
    · rw [(nd_lD D A B C).2]; exact ⟨hB, k5⟩
  unfold wL_lawOf_118
  refine br_t hz (nd_end (l := nd_l D A B C D) hD (show 2 ≤ 16 by omega) hQ k1 hl k8 (fun b6 => ?_))
  have be := nd_be2 (nd_l D A B C D) Q
  rw [(nd_lD D A B C).1, (nd_lD D A B C).2] at be
  have h1' := h1
  have h2' := h2
  by_cases a : A = Q
  · rw [if_pos a] at h1 be
    refine pk_eq s1 0 (fun z => absurd z (by omega)) (fun z => ?_)
    exact nd_147 K e0 e1 e2 e3 h1' h2' (by rw [be]; rfl) H
  · rw [if_neg a] at h1 be
    refine pk_eq s1 0 (fun z => ?_) (fun z => absurd h1 z)
    by_cases b : B = Q
    · rw [if_pos b] at h2 be
      refine pk_eq s2 0 (fun z => absurd z (by omega)) (fun z => ?_)
      exact nd_147 K e0 e1 e2 e3 h1' h2' (by rw [be]; rfl) H
    · rw [if_neg b] at h2 be
      refine pk_eq s2 0 (fun z => ?_) (fun z => absurd h2 z)
      exact nd_147 K e0 e1 e2 e3 h1' h2' (by rw [be]; rfl) H
theorem nd_94 {post : Int32 → St0 → Prop} {mc ms kc ks : Nat} {p0 p1 p2 p3 : Int32} {f2 f3 f4 f5 : Int32} {a1 a2 a3 a4 a5 a6 a7 a8 a9 a10 : Nat → Int32} {D E A B C Q s1 s2 : Nat} (K : nd_K D E A B C Q a1 a2 a3 a4 a5)
    (e0 : p0 &&& 3 = nI A) (e1 : p1 &&& 3 = nI B) (e2 : p2 &&& 3 = nI C) (e3 : p3 &&& 3 = nI Q)
    (h1 : s1 = if A = Q then 1 else 0) (h2 : s2 = if B = Q then 1 else 0) (H : post 1 ()) :
    wL_lawOf_94 post mc ms p0 p1 p2 p3 (nI D) (nI E) (nI s1) (nI s2) kc ks (nI 1) f2 f3 f4 f5 a1 a2 a3 a4 a5 a6 a7 a8 a9 a10 := by
  have K' := K
  obtain ⟨⟨hD, hE, hDE⟩, ⟨hA, hB, hC, hQ⟩, k1, k2, k3, k4, k5, k6, k7, k8, k9⟩ := K'
  have b1 : s1 ≤ 1 := by rw [h1]; split <;> omega
  have b2 : s2 ≤ 1 := by rw [h2]; split <;> omega
  have hl : ∀ i, i < 2 → nd_l D A B C D i < 4 ∧ a2 (16 * D + i) = nI (nd_l D A B C D i) := by
    intro i hi
    rcases (show i = 0 ∨ i = 1 by omega) with rfl | rfl
    · rw [(nd_lD D A B C).1]; exact ⟨hA, k4⟩
    · rw [(nd_lD D A B C).2]; exact ⟨hB, k5⟩
  unfold wL_lawOf_94
  refine nd_distance (l := nd_l D A B C D) hD (show 2 ≤ 16 by omega) hQ k1 hl k8 (fun b6 => ?_)
  have be := nd_be2 (nd_l D A B C D) Q
  rw [(nd_lD D A B C).1, (nd_lD D A B C).2] at be
  have h1' := h1
  have h2' := h2
  by_cases a : A = Q
  · rw [if_pos a] at h1 be
    have bd : nd_bd (nd_l D A B C D) Q 2 = 0 := by unfold nd_bd; rw [be]; rfl
    refine pk_eq s1 0 (fun z => absurd z (by omega)) (fun z => ?_)
    unfold wL_lawOf_113
    exact nd_118 K e0 e1 e2 e3 h1' h2' (by rw [bd]; rfl) H
  · rw [if_neg a] at h1 be
    refine pk_eq s1 0 (fun z => ?_) (fun z => absurd h1 z)
    by_cases b : B = Q
    · rw [if_pos b] at h2 be
      have bd : nd_bd (nd_l D A B C D) Q 2 = 0 := by unfold nd_bd; rw [be]; rfl
      refine pk_eq s2 0 (fun z => absurd z (by omega)) (fun z => ?_)
      unfold wL_lawOf_113
      exact nd_118 K e0 e1 e2 e3 h1' h2' (by rw [bd]; rfl) H
    · rw [if_neg b] at h2 be
      have bd : nd_bd (nd_l D A B C D) Q 2 = 1 := by unfold nd_bd; rw [be]; rfl
      refine pk_eq s2 0 (fun z => ?_) (fun z => absurd h2 z)
      exact nd_118 K e0 e1 e2 e3 h1' h2' (by rw [bd]; rfl) H
theorem nd_78 {post : Int32 → St0 → Prop} {mc ms kc ks : Nat} {p0 p1 p2 p3 : Int32} {f2 f3 f4 f5 : Int32} {a1 a2 a3 a4 a5 a6 a7 a8 a9 a10 : Nat → Int32} {D E A B C Q s1 : Nat} (K : nd_K D E A B C Q a1 a2 a3 a4 a5)
    (e0 : p0 &&& 3 = nI A) (e1 : p1 &&& 3 = nI B) (e2 : p2 &&& 3 = nI C) (e3 : p3 &&& 3 = nI Q)
    (h1 : s1 = if A = Q then 1 else 0) (H : post 1 ()) :
    wL_lawOf_78 post mc ms p0 p1 p2 p3 (nI D) (nI E) (nI s1) kc ks (nI 1) f2 f3 f4 f5 a1 a2 a3 a4 a5 a6 a7 a8 a9 a10 := by
  have hB : B < 4 := K.2.1.2.1
  have hQ : Q < 4 := K.2.1.2.2.2
  unfold wL_lawOf_78
  exact pk_eq B Q (fun z => nd_94 (s2 := 1) K e0 e1 e2 e3 h1 (if_pos z).symm H) (fun z => nd_94 (s2 := 0) K e0 e1 e2 e3 h1 (if_neg z).symm H) e1 e3
end
section
theorem nd_lawOf {post : Int32 → St0 → Prop} {p0 p1 p2 p3 p4 : Int32} (H : post 1 ()) : wpL_lawOf post 11 373 () p0 p1 p2 p3 p4 := by
  obtain ⟨A, hA, e0⟩ := pk_andE p0 (m := 3) 2 (by decide)
  obtain ⟨B, hB, e1⟩ := pk_andE p1 (m := 3) 2 (by decide)
  obtain ⟨C, hC, e2⟩ := pk_andE p2 (m := 3) 2 (by decide)
  obtain ⟨Q, hQ, e3⟩ := pk_andE p3 (m := 3) 2 (by decide)
  obtain ⟨D, hD, e4⟩ := pk_andE p4 (m := 7) 3 (by decide)
  have hE : (D + 1) % 8 < 8 := Nat.mod_lt _ (by omega)
  have hDE : D ≠ (D + 1) % 8 := by omega
  have e5 : (nI D + 1) &&& 7 = nI ((D + 1) % 8) := by
    rw [nI_1]
    exact pk_andN (by omega) 3 (by decide)
  generalize (D + 1) % 8 = E at hE hDE e5
  unfold wpL_lawOf
  refine ⟨by omega, by omega, 10, 358, by omega, by omega, ?_⟩
  unfold wpX_init
  dsimp only
  refine ⟨by omega, by omega, by omega, by omega, by omega, by omega, by omega, by omega, by omega, by omega, by omega, by omega, by omega, by omega, by omega, by omega, by omega, by omega, by omega, by omega, ?_⟩
  refine nm_r e4 (nm_r e5 ?_)
  refine nd_write0 hD rfl ?_
  dsimp only
  rw [e0]
  refine nd_write1 hD pk_us hA hB pk_us e1 ?_
  dsimp only
  refine nd_write0 hE (by rw [pk_un (fun z => hDE z.symm), pk_un (fun z => hDE z.symm)]; rfl) ?_
  dsimp only
  rw [e2]
  refine nd_type (br_t rfl ?_)
  rw [e3]
  have K : nd_K D E A B C Q (upd (upd (upd (fun _ => 0) D (nI 1)) D (nI 2)) E (nI 1)) (upd (upd (upd (fun _ => 0) (16 * D) (nI A)) (16 * D + 1) (nI B)) (16 * E) (nI C)) (upd (fun _ => 0) (16 * D + 4 * A + B) ((fun _ => (0 : Int32)) (16 * D + 4 * A + B) + 1)) (upd (fun _ => 0) 0 (nI Q)) (fun _ => 0) := by
    refine ⟨⟨hD, hE, hDE⟩, ⟨hA, hB, hC, hQ⟩, ?_, pk_us, ?_, ?_, ?_, pk_us, ?_, pk_us, fun _ _ => rfl⟩
    · rw [pk_un hDE, pk_us]
    · intro j _ hjD hjE
      rw [pk_un hjE, pk_un hjD, pk_un hjD]
      rfl
    · rw [pk_un (by omega), pk_un (by omega), pk_us]
    · rw [pk_un (by omega), pk_us]
    · intro k _
      by_cases e : k = 16 * D + 4 * A + B
      · rw [e, pk_us]
        show (0 : Int32) ≤ 0 + 1
        decide
      · rw [pk_un e]
        show (0 : Int32) ≤ 0
        decide
  exact pk_eq A Q (fun z => nd_78 (s1 := 1) K e0 e1 e2 e3 (if_pos z).symm H) (fun z => nd_78 (s1 := 0) K e0 e1 e2 e3 (if_neg z).symm H)
theorem nd_cellAt {post : Int32 → Prop} {L : Nat} {xs : Nat → Int32} {k : Nat} (hL : L ≤ 5) (hk : k ≤ 5) (H : ∀ v, post v) : wpL_cellAt post L xs () (nI k) := by
  unfold wpL_cellAt
  exact pk_le L k (fun _ => H 0) (fun z => ⟨pk_in k L z, H _⟩)
theorem i_vc (xs : Nat → Int32) (L : Nat) (hL : L ≤ 5) : wpL_law (fun r => r = 1) L xs := by
  unfold wpL_law
  exact nd_cellAt (k := 0) hL (by omega) (fun v0 => nd_cellAt (k := 1) hL (by omega) (fun v1 => nd_cellAt (k := 2) hL (by omega) (fun v2 => nd_cellAt (k := 3) hL (by omega) (fun v3 => nd_cellAt (k := 4) hL (by omega) (fun v4 => ⟨11, 373, by omega, by omega, nd_lawOf rfl⟩)))))
end
