section
-- the number of ones, counted as bitsOf counts them
def mr_pc : Nat → Int32 → Nat
  | 0, _ => 0
  | f + 1, x => if x = 0 then 0 else mr_pc f (x &&& (x - 1)) + 1
theorem mr_pc_s (f : Nat) {x : Int32} (h : ¬ x = 0) : mr_pc (f + 1) x = mr_pc f (x &&& (x - 1)) + 1 := if_neg h
theorem mr_pc_0 (f : Nat) : mr_pc f 0 = 0 := by
  cases f with
  | zero => rfl
  | succ f => exact if_pos rfl
theorem mr_pc_le : ∀ (f : Nat) (x : Int32), mr_pc f x ≤ f := by
  intro f
  induction f with
  | zero => intro x; exact Nat.le_refl 0
  | succ f ih =>
    intro x
    by_cases h : x = 0
    · rw [h, mr_pc_0]
      omega
    · rw [mr_pc_s f h]
      have := ih (x &&& (x - 1))
      omega
theorem mr_pc_pos {x : Int32} (h : ¬ x = 0) : 1 ≤ mr_pc 20 x := by
  rw [mr_pc_s 19 h]
  omega
-- one step and the whole of neighboursOf
def mr_st (x1 x2 x3 : Int32) : Int32 :=
  if (x1 / 5) - (x3 / 5) < (-1) then x2 else if 1 < (x1 / 5) - (x3 / 5) then x2
  else if (x1 - x1 / 5 * 5) - (x3 - x3 / 5 * 5) < (-1) then x2 else if 1 < (x1 - x1 / 5 * 5) - (x3 - x3 / 5 * 5) then x2
  else if x1 = x3 then x2 else x2 ||| ((1 : Int32) <<< (x3 &&& 31))
def mr_nb (x1 : Int32) : Nat → Int32
  | 0 => 0
  | d + 1 => mr_st x1 (mr_nb x1 d) (nI d)
def mr_N (c : Nat) : Int32 := mr_nb (nI c) 20
-- the covered cells, out of the clues; where all but c are covered
def mr_cov (a : Nat → Int32) : Nat → Int32
  | 0 => 0
  | k + 1 => if a k = (-1) then mr_cov a k ||| ((1 : Int32) <<< (nI k &&& 31)) else mr_cov a k
theorem mr_cov_t {a : Nat → Int32} {k : Nat} (h : a k = (-1)) : mr_cov a (k + 1) = mr_cov a k ||| ((1 : Int32) <<< (nI k &&& 31)) := if_pos h
theorem mr_cov_f {a : Nat → Int32} {k : Nat} (h : ¬ a k = (-1)) : mr_cov a (k + 1) = mr_cov a k := if_neg h
def mr_cv (c : Nat) : Nat → Int32
  | 0 => 0
  | k + 1 => if k = c then mr_cv c k else mr_cv c k ||| ((1 : Int32) <<< (nI k &&& 31))
def mr_C (c : Nat) : Int32 := mr_cv c 20
-- pictures of the clues: one clue k at c; none
def mr_one (a : Nat → Int32) (c k : Nat) : Prop := c < 20 ∧ k ≤ 8 ∧ a c = nI k ∧ ∀ j, j < 20 → j ≠ c → a j = (-1)
def mr_non (a : Nat → Int32) : Prop := ∀ j, j < 20 → a j = (-1)
theorem mr_nm1 {k : Nat} (h : k < 2 ^ 31) : ¬ nI k = (-1) := by
  intro e
  have e2 := congrArg Int32.toInt e
  rw [nI_toInt h, show (-1 : Int32).toInt = -1 by decide] at e2
  omega
theorem mr_one_n {a : Nat → Int32} {c k : Nat} (h : mr_one a c k) : ¬ a c = (-1) := by
  rw [h.2.2.1]
  exact mr_nm1 (by have := h.2.1; omega)
theorem mr_cov_one {a : Nat → Int32} {c k : Nat} (h : mr_one a c k) : mr_cov a 20 = mr_C c := by
  have key : ∀ m, m ≤ 20 → mr_cov a m = mr_cv c m := by
    intro m
    induction m with
    | zero => intro _; rfl
    | succ m ih =>
      intro hm
      have e := ih (by omega)
      by_cases hc : m = c
      · rw [mr_cov_f (by rw [hc]; exact mr_one_n h), e]
        exact (if_pos hc).symm
      · rw [mr_cov_t (h.2.2.2 m (by omega) hc), e]
        exact (if_neg hc).symm
  exact key 20 (by omega)
-- what the twenty cells' neighbours are like
theorem mr_f1 : ∀ c, c < 20 → ¬ mr_N c = 0 := by decide +kernel
theorem mr_f2 : ∀ c, c < 20 → mr_N c &&& mr_C c = mr_N c := by decide +kernel
theorem mr_f3 : ∀ c, c < 20 → ¬ mr_N c &&& (mr_N c &&& -mr_N c) = 0 := by decide +kernel
theorem mr_f4 : ∀ c, c < 20 → (mr_N c &&& -mr_N c) ||| mr_N c = mr_N c := by decide +kernel
theorem mr_f5 : ∀ c, c < 20 → mr_N c &&& (mr_N c ^^^ (-1)) = 0 := by decide +kernel
theorem mr_f6 : ∀ c, c < 20 → ∃ d, d < 20 ∧ (mr_N c >>> (nI d &&& 31)) &&& 1 = 1 := by decide +kernel
theorem mr_f7 : ∀ c, c < 20 → ∀ d, d < 20 → (mr_N c >>> (nI d &&& 31)) &&& 1 = 1 → ¬ mr_N c &&& ((1 : Int32) <<< (nI d &&& 31)) = 0 := by decide +kernel
theorem mr_f8 : ∀ d, d < 20 → ((1 : Int32) <<< (nI d &&& 31)) &&& (((1 : Int32) <<< (nI d &&& 31)) ^^^ (-1)) = 0 := by decide +kernel
-- the number of neighbours as the law reckons it
def mr_rows (x : Int32) : Int32 := if x / 5 = 0 then 2 else if x / 5 = 3 then 2 else 3
def mr_cols (x : Int32) : Int32 := if x - x / 5 * 5 = 0 then 2 else if x - x / 5 * 5 = 4 then 2 else 3
theorem mr_f9 : ∀ c, c < 20 → (mr_rows (nI c) * mr_cols (nI c)) - 1 = nI (mr_pc 20 (mr_N c)) := by decide +kernel
theorem mr_z1 (x : Int32) : x &&& ((0 : Int32) ^^^ (-1)) = x := by
  rw [Int32.zero_xor]
  exact Int32.and_neg_one
end
section
theorem mr_bitsL {post : Int32 → Prop} {w cov gc rst cel mn dm df cl : Int32} {a1 a2 a3 a4 a5 a6 a7 a8 a9 a10 : Nat → Int32} : ∀ (k i : Nat) (x : Int32), i + k = 20 → post (nI (i + mr_pc k x)) → wX_bitsOf_7 post w cov gc rst cel mn dm df cl a1 a2 a3 a4 a5 a6 a7 a8 a9 a10 (k + 1) (nI i) x (nI i) := by
  intro k
  induction k with
  | zero =>
    intro i x hi H
    have e : i = 20 := by omega
    subst e
    exact pk_le 20 20 (fun _ => H) (fun z => absurd z (by omega))
  | succ k ih =>
    intro i x hi H
    refine pk_le 20 i (fun z => absurd z (by omega)) (fun _ => ?_)
    by_cases hx : x = 0
    · refine br_t hx ?_
      rw [hx, mr_pc_0] at H
      exact H
    · rw [mr_pc_s k hx, show i + (mr_pc k (x &&& (x - 1)) + 1) = i + 1 + mr_pc k (x &&& (x - 1)) by omega] at H
      exact br_f hx (nm_e (nm_r (nI_1 i) (nm_r (nI_1 i) (ih (i + 1) _ (by omega) H))))
theorem mr_bits {post : Int32 → Prop} (u : St2) (x : Int32) (H : post (nI (mr_pc 20 x))) : wpX_bitsOf post u x := by
  obtain ⟨w, cov, gc, rst, cel, mn, dm, df, cl, a1, a2, a3, a4, a5, a6, a7, a8, a9, a10⟩ := u
  rw [← Nat.zero_add (mr_pc 20 x)] at H
  exact Exists.intro 21 (mr_bitsL 20 0 x rfl H)
theorem mr_has {post : Int32 → Prop} (u : St2) (x y : Int32) (H1 : (x >>> (y &&& 31)) &&& 1 = 1 → post 1) (H0 : ¬ (x >>> (y &&& 31)) &&& 1 = 1 → post 0) : wpX_has post u x y := by
  obtain ⟨w, cov, gc, rst, cel, mn, dm, df, cl, a1, a2, a3, a4, a5, a6, a7, a8, a9, a10⟩ := u
  exact br_c H1 H0
theorem mr_nei {post : Int32 → Prop} (u : St2) (x1 : Int32) (H : post (mr_nb x1 20)) : wpX_neighboursOf post u x1 := by
  obtain ⟨w, cov, gc, rst, cel, mn, dm, df, cl, a1, a2, a3, a4, a5, a6, a7, a8, a9, a10⟩ := u
  refine pk_loop (fun n i s => wX_neighboursOf_4 post x1 w cov gc rst cel mn dm df cl a1 a2 a3 a4 a5 a6 a7 a8 a9 a10 n s (nI i)) (fun i s => s = mr_nb x1 i) 20 0 0 (by omega) rfl
    (fun n s h => pk_le 20 20 (fun _ => ek_v (P := post) h H) (fun z => absurd z (by omega)))
    (fun n i s hi h hw => pk_le 20 i (fun z => absurd z (by omega)) (fun _ => ⟨by decide, by decide, nm_e ⟨by decide, by decide, nm_e ?_⟩⟩))
  have e : ∀ r, r = mr_st x1 s (nI i) → wX_neighboursOf_4 post x1 w cov gc rst cel mn dm df cl a1 a2 a3 a4 a5 a6 a7 a8 a9 a10 n r (nI (i + 1)) := fun r hr => hw r (hr.trans (congrArg (fun t => mr_st x1 t (nI i)) h))
  by_cases h1 : (x1 / 5) - (nI i / 5) < (-1)
  · exact br_t h1 (br_t rfl (nm_r (nI_1 i) (e _ (by unfold mr_st; rw [if_pos h1]))))
  refine br_f h1 ?_
  by_cases h2 : 1 < (x1 / 5) - (nI i / 5)
  · exact br_t h2 (br_t rfl (nm_r (nI_1 i) (e _ (by unfold mr_st; rw [if_neg h1, if_pos h2]))))
  refine br_f h2 ?_
  by_cases h3 : (x1 - x1 / 5 * 5) - (nI i - nI i / 5 * 5) < (-1)
  · exact br_t h3 (br_t rfl (nm_r (nI_1 i) (e _ (by unfold mr_st; rw [if_neg h1, if_neg h2, if_pos h3]))))
  refine br_f h3 ?_
  by_cases h4 : 1 < (x1 - x1 / 5 * 5) - (nI i - nI i / 5 * 5)
  · exact br_t h4 (br_t rfl (nm_r (nI_1 i) (e _ (by unfold mr_st; rw [if_neg h1, if_neg h2, if_neg h3, if_pos h4]))))
  refine br_f h4 ?_
  by_cases h5 : x1 = nI i
  · exact br_t h5 (br_t rfl (nm_r (nI_1 i) (e _ (by unfold mr_st; rw [if_neg h1, if_neg h2, if_neg h3, if_neg h4, if_pos h5]))))
  · exact br_f h5 (br_f (by decide) (nm_e (nm_r (nI_1 i) (e _ (by unfold mr_st; rw [if_neg h1, if_neg h2, if_neg h3, if_neg h4, if_neg h5])))))
theorem mr_refresh {post : St2 → Prop} {w cov gc rst cel mn dm df cl : Int32} {a1 a2 a3 a4 a5 a6 a7 a8 a9 a10 : Nat → Int32} (H : post (w, mr_cov a1 20, gc, rst, cel, mn, dm, df, cl, a1, a2, a3, a4, a5, a6, a7, a8, a9, a10)) : wpX_refresh post (w, cov, gc, rst, cel, mn, dm, df, cl, a1, a2, a3, a4, a5, a6, a7, a8, a9, a10) := by
  refine pk_loop (fun n i s => wX_refresh_7 post w gc rst cel mn dm df cl a1 a2 a3 a4 a5 a6 a7 a8 a9 a10 n (nI i) s) (fun i s => s = mr_cov a1 i) 20 0 0 (by omega) rfl
    (fun n s h => pk_le 20 20 (fun _ => ek_v (P := fun v => post (w, v, gc, rst, cel, mn, dm, df, cl, a1, a2, a3, a4, a5, a6, a7, a8, a9, a10)) h H) (fun z => absurd z (by omega)))
    (fun n i s hi h hw => pk_le 20 i (fun z => absurd z (by omega)) (fun _ => ⟨pk_in i 20 hi, ?_⟩))
  rw [nI_clamp (show i < 2 ^ 31 by omega)]
  by_cases e : a1 i = (-1)
  · exact br_t e (nm_e (nm_r (nI_1 i) (hw _ (by show _ = _; rw [mr_cov_t e, show s = mr_cov a1 i from h]))))
  · exact br_f e (nm_r (nI_1 i) (hw _ (by show _ = _; rw [mr_cov_f e, show s = mr_cov a1 i from h])))
theorem mr_bad {post : Int32 → Prop} (u : St2) (x : Int32) (h1 : (¬ x < 0 ∧ x < 20) → post 0) (h2 : ¬ (¬ x < 0 ∧ x < 20) → post 1) : wpX_badCell post u x := by
  obtain ⟨w, cov, gc, rst, cel, mn, dm, df, cl, a1, a2, a3, a4, a5, a6, a7, a8, a9, a10⟩ := u
  exact br_c (fun a => h2 (fun z => z.1 a)) (fun a => br_c (fun b => h1 ⟨a, b⟩) (fun b => h2 (fun z => b z.2)))
theorem mr_cellI {c : Nat} (hc : c < 20) : ¬ nI c < 0 ∧ nI c < 20 := ⟨nI_pos (by omega), nI_lt (b := 20) hc (by omega)⟩
theorem mr_show_ok {post : Int32 → St2 → Prop} {w cov gc rst cel mn dm df cl : Int32} {a1 a2 a3 a4 a5 a6 a7 a8 a9 a10 : Nat → Int32} {c k : Nat} (hc : c < 20) (hk : k ≤ 8) (ho : a1 c = (-1)) (H : post (-2) (w, mr_cov (upd a1 c (nI k)) 20, gc, rst, cel, mn, dm, df, cl, upd a1 c (nI k), a2, a3, a4, a5, a6, a7, a8, a9, a10)) : wpX_show post (w, cov, gc, rst, cel, mn, dm, df, cl, a1, a2, a3, a4, a5, a6, a7, a8, a9, a10) (nI c) (nI k) := by
  unfold wpX_show
  refine mr_bad (w, cov, gc, rst, cel, mn, dm, df, cl, a1, a2, a3, a4, a5, a6, a7, a8, a9, a10) (nI c) (fun _ => br_t rfl (br_f (nI_pos (by omega)) (br_t (nI_le (b := 8) hk (by omega)) ⟨pk_in c 20 hc, ?_⟩))) (fun z => absurd (mr_cellI hc) z)
  rw [nI_clamp (show c < 2 ^ 31 by omega)]
  exact nm_r ho ⟨pk_in c 20 hc, nm_e (mr_refresh (br_t rfl H))⟩
theorem mr_show_no {post : Int32 → St2 → Prop} {w cov gc rst cel mn dm df cl : Int32} {a1 a2 a3 a4 a5 a6 a7 a8 a9 a10 : Nat → Int32} {p0 p1 : Int32} (h : ¬ ((¬ p0 < 0 ∧ p0 < 20) ∧ ¬ p1 < 0 ∧ p1 ≤ 8)) (H : post (-1) (w, cov, gc, rst, cel, mn, dm, df, cl, a1, a2, a3, a4, a5, a6, a7, a8, a9, a10)) : wpX_show post (w, cov, gc, rst, cel, mn, dm, df, cl, a1, a2, a3, a4, a5, a6, a7, a8, a9, a10) p0 p1 := by
  unfold wpX_show
  exact mr_bad (w, cov, gc, rst, cel, mn, dm, df, cl, a1, a2, a3, a4, a5, a6, a7, a8, a9, a10) p0 (fun z => br_t rfl (br_c (fun _ => H) (fun a => br_c (fun b => absurd ⟨z, a, b⟩ h) (fun _ => H)))) (fun _ => br_f (by decide) H)
theorem mr_total {post : Int32 → St2 → Prop} {w cov gc rst cel mn dm df cl : Int32} {a1 a2 a3 a4 a5 a6 a7 a8 a9 a10 : Nat → Int32} {p : Int32} (H1 : (¬ p < (-1) ∧ p ≤ 20) → post w (p, cov, gc, rst, cel, mn, dm, df, cl, a1, a2, a3, a4, a5, a6, a7, a8, a9, a10)) (H2 : ¬ (¬ p < (-1) ∧ p ≤ 20) → post (-1) (w, cov, gc, rst, cel, mn, dm, df, cl, a1, a2, a3, a4, a5, a6, a7, a8, a9, a10)) : wpX_total post (w, cov, gc, rst, cel, mn, dm, df, cl, a1, a2, a3, a4, a5, a6, a7, a8, a9, a10) p :=
  br_c (fun a => H2 (fun z => z.1 a)) (fun a => br_c (fun b => H1 ⟨a, b⟩) (fun b => H2 (fun z => b z.2)))
theorem mr_clue_ok {post : Int32 → Prop} {w cov gc rst cel mn dm df cl : Int32} {a1 a2 a3 a4 a5 a6 a7 a8 a9 a10 : Nat → Int32} {d : Nat} (hd : d < 20) (H : post (if a1 d = (-1) then (-2) else a1 d)) : wpX_clue post (w, cov, gc, rst, cel, mn, dm, df, cl, a1, a2, a3, a4, a5, a6, a7, a8, a9, a10) (nI d) := by
  unfold wpX_clue
  refine mr_bad (w, cov, gc, rst, cel, mn, dm, df, cl, a1, a2, a3, a4, a5, a6, a7, a8, a9, a10) (nI d) (fun _ => br_t rfl ⟨pk_in d 20 hd, ?_⟩) (fun z => absurd (mr_cellI hd) z)
  rw [nI_clamp (show d < 2 ^ 31 by omega)]
  by_cases e : a1 d = (-1)
  · rw [if_pos e] at H
    exact br_t e H
  · rw [if_neg e] at H
    exact br_f e ⟨pk_in d 20 hd, H⟩
theorem mr_clue_no {post : Int32 → Prop} {w cov gc rst cel mn dm df cl : Int32} {a1 a2 a3 a4 a5 a6 a7 a8 a9 a10 : Nat → Int32} {p : Int32} (h : ¬ (¬ p < 0 ∧ p < 20)) (H : post (-1)) : wpX_clue post (w, cov, gc, rst, cel, mn, dm, df, cl, a1, a2, a3, a4, a5, a6, a7, a8, a9, a10) p := by
  unfold wpX_clue
  exact mr_bad (w, cov, gc, rst, cel, mn, dm, df, cl, a1, a2, a3, a4, a5, a6, a7, a8, a9, a10) p (fun z => absurd z h) (fun _ => br_f (by decide) H)
theorem mr_cover_ok {post : Int32 → St2 → Prop} {w cov gc rst cel mn dm df cl : Int32} {a1 a2 a3 a4 a5 a6 a7 a8 a9 a10 : Nat → Int32} {d : Nat} (hd : d < 20) (H : ∀ u, post (if a1 d = (-1) then (-2) else a1 d) u) : wpX_cover post (w, cov, gc, rst, cel, mn, dm, df, cl, a1, a2, a3, a4, a5, a6, a7, a8, a9, a10) (nI d) := by
  unfold wpX_cover
  refine mr_bad (w, cov, gc, rst, cel, mn, dm, df, cl, a1, a2, a3, a4, a5, a6, a7, a8, a9, a10) (nI d) (fun _ => br_t rfl ⟨pk_in d 20 hd, ?_⟩) (fun z => absurd (mr_cellI hd) z)
  rw [nI_clamp (show d < 2 ^ 31 by omega)]
  by_cases e : a1 d = (-1)
  · rw [if_pos e] at H
    exact br_t e (H _)
  · rw [if_neg e] at H
    exact br_f e ⟨pk_in d 20 hd, nm_e ⟨pk_in d 20 hd, nm_e (mr_refresh (H _))⟩⟩
theorem mr_cover_no {post : Int32 → St2 → Prop} {w cov gc rst cel mn dm df cl : Int32} {a1 a2 a3 a4 a5 a6 a7 a8 a9 a10 : Nat → Int32} {p : Int32} (h : ¬ (¬ p < 0 ∧ p < 20)) (H : ∀ u, post (-1) u) : wpX_cover post (w, cov, gc, rst, cel, mn, dm, df, cl, a1, a2, a3, a4, a5, a6, a7, a8, a9, a10) p := by
  unfold wpX_cover
  exact mr_bad (w, cov, gc, rst, cel, mn, dm, df, cl, a1, a2, a3, a4, a5, a6, a7, a8, a9, a10) p (fun z => absurd z h) (fun _ => br_f (by decide) (H _))
end
section
theorem mr_nar1 : narrow .boolean (.int 1) = .int 1 := rfl
theorem mr_nar0 : narrow .boolean (.int 0) = .int 0 := rfl
theorem mr_link {post : Int32 → Prop} {w cov gc rst cel mn dm df cl : Int32} {a1 a2 a3 a4 a5 a6 a7 a8 a9 a10 : Nat → Int32} {c k : Nat} (h1 : mr_one a1 c k) (x1 : Int32) (H : post (if ((a2 c) &&& cov) &&& x1 = 0 then x1 else x1 ||| ((a2 c) &&& cov))) : wpX_linkedTo post (w, cov, gc, rst, cel, mn, dm, df, cl, a1, a2, a3, a4, a5, a6, a7, a8, a9, a10) x1 := by
  refine pk_loop (fun n i s => wX_linkedTo_4 post x1 w cov gc rst cel mn dm df cl a1 a2 a3 a4 a5 a6 a7 a8 a9 a10 n s (nI i)) (fun i s => s = if i ≤ c then x1 else if ((a2 c) &&& cov) &&& x1 = 0 then x1 else x1 ||| ((a2 c) &&& cov)) 20 0 x1 (by omega) (if_pos (Nat.zero_le c)).symm
    (fun n s h => pk_le 20 20 (fun _ => ek_v (P := post) (Eq.trans h (if_neg (by have := h1.1; omega))) H) (fun z => absurd z (by omega)))
    (fun n i s hi h hw => pk_le 20 i (fun z => absurd z (by omega)) (fun _ => ⟨pk_in i 20 hi, ?_⟩))
  rw [nI_clamp (show i < 2 ^ 31 by omega)]
  by_cases e : i = c
  · subst e
    have h' : s = x1 := Eq.trans h (if_pos (Nat.le_refl i))
    refine br_f (mr_one_n h1) ⟨pk_in i 20 hi, ?_⟩
    by_cases e2 : ((a2 i) &&& cov) &&& x1 = 0
    · exact br_t e2 (nm_r (nI_1 i) (hw _ (by show _ = _; rw [h', if_neg (by omega), if_pos e2])))
    · exact br_f e2 ⟨pk_in i 20 hi, nm_e (nm_r (nI_1 i) (hw _ (by show _ = _; rw [h', if_neg (by omega), if_neg e2])))⟩
  · refine br_t (h1.2.2.2 i hi e) (nm_r (nI_1 i) (hw _ (Eq.trans h ?_)))
    by_cases e3 : i ≤ c
    · rw [if_pos e3, if_pos (show i + 1 ≤ c by omega)]
    · rw [if_neg e3, if_neg (show ¬ i + 1 ≤ c by omega)]
theorem mr_grp84 {post : St2 → Prop} {w cov rst cel mn dm df cl : Int32} {a1 a2 a3 a4 a5 a6 a7 a8 a9 a10 : Nat → Int32} {J : Int32 → Int32 → Int32 → (Nat → Int32) → (Nat → Int32) → (Nat → Int32) → (Nat → Int32) → (Nat → Int32) → (Nat → Int32) → (Nat → Int32) → (Nat → Int32) → (Nat → Int32) → (Nat → Int32) → Prop} {c k : Nat} (h1 : mr_one a1 c k) (hM : (a2 c) &&& cov = mr_N c) (H : J (mr_N c &&& (mr_N c ^^^ (-1))) 1 1 a1 a2 (upd a3 0 (mr_N c)) a4 a5 a6 a7 a8 a9 a10) : ∃ n, wX_findGroups_84 post J (mr_N c) 0 w cov 0 rst cel mn dm df cl a1 a2 a3 a4 a5 a6 a7 a8 a9 a10 n (mr_N c &&& -mr_N c) 0 := by
  have hc := h1.1
  refine pk_loop (fun n i s => wX_findGroups_84 post J (mr_N c) 0 w cov 0 rst cel mn dm df cl a1 a2 a3 a4 a5 a6 a7 a8 a9 a10 n s (nI i)) (fun i s => s = if i = 0 then (mr_N c &&& -mr_N c) else mr_N c) 20 0 (mr_N c &&& -mr_N c) (by omega) rfl
    (fun n s h => pk_le 20 20 (fun _ => ⟨pk_in 0 20 (by omega), ?_⟩) (fun z => absurd z (by omega)))
    (fun n i s hi h hw => pk_le 20 i (fun z => absurd z (by omega)) (fun _ => mr_link h1 s (nm_r (nI_1 i) (hw _ ?_))))
  · have h' : s = mr_N c := h
    rw [h']
    exact nm_e (nm_e (nm_e (nm_e H)))
  · show _ = _
    rw [hM, if_neg (show ¬ i + 1 = 0 by omega)]
    by_cases e : i = 0
    · have h' : s = mr_N c &&& -mr_N c := Eq.trans h (if_pos e)
      rw [h', if_neg (mr_f3 c hc), mr_f4 c hc]
    · have h' : s = mr_N c := Eq.trans h (if_neg e)
      rw [h', Int32.and_self, if_neg (mr_f1 c hc), Int32.or_self]
theorem mr_grp65 {post : St2 → Prop} {w cov rst cel mn dm df cl : Int32} {a1 a2 a3 a4 a5 a6 a7 a8 a9 a10 : Nat → Int32} {c k : Nat} (h1 : mr_one a1 c k) (hM : (a2 c) &&& cov = mr_N c) (H : post (w, cov, 1, rst, cel, mn, dm, df, cl, a1, a2, upd a3 0 (mr_N c), a4, a5, a6, a7, a8, a9, a10)) : ∃ n, wX_findGroups_65 post w cov rst cel mn dm df cl n (mr_N c) 0 0 a1 a2 a3 a4 a5 a6 a7 a8 a9 a10 :=
  Exists.intro 2 (pk_le 20 0 (fun z => absurd z (by omega)) (fun _ => br_f (mr_f1 c h1.1) (nm_e (mr_grp84 h1 hM (pk_le 20 1 (fun z => absurd z (by omega)) (fun _ => br_t (mr_f5 c h1.1) H))))))
theorem mr_grp {post : St2 → Prop} {w cov gc rst cel mn dm df cl : Int32} {a1 a2 a3 a4 a5 a6 a7 a8 a9 a10 : Nat → Int32} {c k : Nat} (h1 : mr_one a1 c k) (hM : (a2 c) &&& cov = mr_N c) (H : post (w, cov, 1, cov &&& (mr_N c ^^^ (-1)), cel, mn, dm, df, cl, a1, a2, upd a3 0 (mr_N c), a4, a5, a6, a7, a8, a9, a10)) : wpX_findGroups post (w, cov, gc, rst, cel, mn, dm, df, cl, a1, a2, a3, a4, a5, a6, a7, a8, a9, a10) := by
  refine pk_loop (fun n i s => wX_findGroups_9 post w cov 0 rst cel mn dm df cl a1 a2 a3 a4 a5 a6 a7 a8 a9 a10 n s (nI i)) (fun i s => s = if i ≤ c then 0 else mr_N c) 20 0 0 (by omega) (if_pos (Nat.zero_le c)).symm
    (fun n s h => pk_le 20 20 (fun _ => ?_) (fun z => absurd z (by omega)))
    (fun n i s hi h hw => pk_le 20 i (fun z => absurd z (by omega)) (fun _ => ⟨pk_in i 20 hi, ?_⟩))
  · have h' : s = mr_N c := Eq.trans h (if_neg (by have := h1.1; omega))
    rw [h']
    exact nm_e (mr_grp65 h1 hM H)
  · rw [nI_clamp (show i < 2 ^ 31 by omega)]
    by_cases e : i = c
    · subst e
      have h' : s = 0 := Eq.trans h (if_pos (Nat.le_refl i))
      exact br_f (mr_one_n h1) ⟨pk_in i 20 hi, nm_e (nm_r (nI_1 i) (hw _ (by show _ = _; rw [h', if_neg (by omega), hM, Int32.zero_or])))⟩
    · refine br_t (h1.2.2.2 i hi e) (nm_r (nI_1 i) (hw _ (Eq.trans h ?_)))
      by_cases e3 : i ≤ c
      · rw [if_pos e3, if_pos (show i + 1 ≤ c by omega)]
      · rw [if_neg e3, if_neg (show ¬ i + 1 ≤ c by omega)]
theorem mr_grp_non {post : St2 → Prop} {w cov gc rst cel mn dm df cl : Int32} {a1 a2 a3 a4 a5 a6 a7 a8 a9 a10 : Nat → Int32} (h1 : mr_non a1) (H : post (w, cov, 0, cov &&& ((0 : Int32) ^^^ (-1)), cel, mn, dm, df, cl, a1, a2, a3, a4, a5, a6, a7, a8, a9, a10)) : wpX_findGroups post (w, cov, gc, rst, cel, mn, dm, df, cl, a1, a2, a3, a4, a5, a6, a7, a8, a9, a10) := by
  refine pk_loop (σ := Unit) (fun n i _ => wX_findGroups_9 post w cov 0 rst cel mn dm df cl a1 a2 a3 a4 a5 a6 a7 a8 a9 a10 n 0 (nI i)) (fun _ _ => True) 20 0 () (by omega) trivial
    (fun n _ _ => pk_le 20 20 (fun _ => nm_e (Exists.intro 1 (pk_le 20 0 (fun z => absurd z (by omega)) (fun _ => br_t rfl H)))) (fun z => absurd z (by omega)))
    (fun n i _ hi _ hw => pk_le 20 i (fun z => absurd z (by omega)) (fun _ => ⟨pk_in i 20 hi, ?_⟩))
  rw [nI_clamp (show i < 2 ^ 31 by omega)]
  exact br_t (h1 i hi) (nm_r (nI_1 i) (hw () trivial))
theorem mr_empty {post : Int32 → Prop} {w cov gc rst cel mn dm df cl : Int32} {a1 a2 a3 a4 a5 a6 a7 a8 a9 a10 : Nat → Int32} (h1 : ∀ j, j < 20 → a1 j = (-1) ∨ ¬ (a2 j) &&& cov = 0) (H : post 1) : wpX_emptyCluesGood post (w, cov, gc, rst, cel, mn, dm, df, cl, a1, a2, a3, a4, a5, a6, a7, a8, a9, a10) := by
  refine pk_loop (σ := Unit) (fun n i _ => wX_emptyCluesGood_4 post w cov gc rst cel mn dm df cl a1 a2 a3 a4 a5 a6 a7 a8 a9 a10 n 1 (nI i)) (fun _ _ => True) 20 0 () (by omega) trivial
    (fun n _ _ => pk_le 20 20 (fun _ => ⟨mr_nar1, H⟩) (fun z => absurd z (by omega)))
    (fun n i _ hi _ hw => pk_le 20 i (fun z => absurd z (by omega)) (fun _ => ⟨pk_in i 20 hi, ?_⟩))
  rw [nI_clamp (show i < 2 ^ 31 by omega)]
  by_cases e : a1 i = (-1)
  · exact br_t e (br_f (by decide) (br_t rfl (nm_r (nI_1 i) (hw () trivial))))
  · have e2 : ¬ (a2 i) &&& cov = 0 := (h1 i hi).resolve_left e
    exact br_f e ⟨pk_in i 20 hi, br_f e2 (br_f (by decide) (br_t rfl (nm_r (nI_1 i) (hw () trivial))))⟩
end
section
theorem mr_list {post : St2 → Prop} {w cov gc rst cel mn dm df cl : Int32} {a1 a2 a3 a4 a5 a6 a7 a8 a9 a10 : Nat → Int32} (N : Int32) (hN : ∃ d, d < 20 ∧ (N >>> (nI d &&& 31)) &&& 1 = 1)
    (H : ∀ (K : Nat) (b9 : Nat → Int32), 1 ≤ K → K ≤ 20 → (∀ j, j < K → ∃ d, d < 20 ∧ b9 j = nI d ∧ (N >>> (nI d &&& 31)) &&& 1 = 1) → post (w, cov, gc, rst, nI K, mn, dm, df, cl, a1, a2, a3, a4, a5, a6, a7, a8, b9, a10)) : wpX_listCells post (w, cov, gc, rst, cel, mn, dm, df, cl, a1, a2, a3, a4, a5, a6, a7, a8, a9, a10) N := by
  refine pk_loop (σ := Nat × (Nat → Int32)) (fun n i s => wX_listCells_7 post N w cov gc rst mn dm df cl n (nI i) (nI s.1) a1 a2 a3 a4 a5 a6 a7 a8 s.2 a10)
    (fun i s => s.1 ≤ i ∧ (∀ j, j < s.1 → ∃ d, d < 20 ∧ s.2 j = nI d ∧ (N >>> (nI d &&& 31)) &&& 1 = 1) ∧ ((∃ d, d < i ∧ (N >>> (nI d &&& 31)) &&& 1 = 1) → 1 ≤ s.1)) 20 0 (0, a9) (by omega)
    ⟨Nat.le_refl 0, fun j hj => absurd hj (Nat.not_lt_zero j), fun ⟨d, hd, _⟩ => absurd hd (Nat.not_lt_zero d)⟩
    (fun n s h => pk_le 20 20 (fun _ => H s.1 s.2 (h.2.2 hN) h.1 h.2.1) (fun z => absurd z (by omega)))
    (fun n i s hi h hw => ?_)
  obtain ⟨K, b⟩ := s
  obtain ⟨g1, g2, g3⟩ := h
  replace g1 : K ≤ i := g1
  replace g2 : ∀ j, j < K → ∃ d, d < 20 ∧ b j = nI d ∧ (N >>> (nI d &&& 31)) &&& 1 = 1 := g2
  replace g3 : (∃ d, d < i ∧ (N >>> (nI d &&& 31)) &&& 1 = 1) → 1 ≤ K := g3
  refine pk_le 20 i (fun z => absurd z (by omega)) (fun _ => mr_has _ N (nI i) (fun e => br_f (by decide) ⟨pk_in K 20 (by omega), ?_⟩) (fun e => br_t rfl (nm_r (nI_1 i) (hw (K, b) ⟨Nat.le_succ_of_le g1, g2, ?_⟩))))
  · rw [nI_clamp (show K < 2 ^ 31 by omega)]
    refine nm_e (nm_r (nI_1 K) (nm_r (nI_1 i) (hw (K + 1, upd b K (nI i)) ⟨Nat.succ_le_succ g1, ?_, fun _ => Nat.succ_le_succ (Nat.zero_le K)⟩)))
    intro j hj
    show ∃ d, d < 20 ∧ upd b K (nI i) j = nI d ∧ _
    by_cases ej : j = K
    · exact ⟨i, hi, by rw [ej, pk_us], e⟩
    · have hj' : j < K + 1 := hj
      rw [pk_un ej]
      exact g2 j (by omega)
  · intro ⟨d, hd, he⟩
    by_cases ed : d = i
    · rw [ed] at he
      exact absurd he e
    · exact g3 ⟨d, by omega, he⟩
theorem mr_openF {post : Int32 → Prop} {w cov gc rst mn dm df cl : Int32} {a1 a2 a3 a4 a5 a6 a7 a8 a9 a10 : Nat → Int32} {K k : Nat} (hK : K ≤ 20) (hk : k ≤ K) (H : ∀ r, (k = K → r = 0) → post r) : wpX_openFrom post (w, cov, gc, rst, nI K, mn, dm, df, cl, a1, a2, a3, a4, a5, a6, a7, a8, a9, a10) (nI k) :=
  pk_loop (fun n i s => wX_openFrom_4 post w cov gc rst (nI K) mn dm df cl a1 a2 a3 a4 a5 a6 a7 a8 a9 a10 n s (nI i)) (fun i s => k ≤ i ∧ (k = K → s = 0)) K k 0 hk ⟨Nat.le_refl k, fun _ => rfl⟩
    (fun n s h => pk_le K K (fun _ => H s h.2) (fun z => absurd z (by omega)))
    (fun n i s hi h hw => pk_le K i (fun z => absurd z (by omega)) (fun _ => ⟨pk_in i 20 (by omega), nm_e (nm_r (nI_1 i) (hw _ ⟨Nat.le_succ_of_le h.1, fun z => absurd (Nat.lt_of_le_of_lt h.1 hi) (by omega)⟩))⟩))
theorem mr_meet {post : Int32 → Prop} {w cov gc rst cel mn dm df cl : Int32} {a1 a2 a3 a4 a5 a6 a7 a8 a9 a10 : Nat → Int32} {c k : Nat} (hc : c < 20) (hk : k ≤ 8) (h1 : a1 c = nI k) (y : Int32)
    (H0 : (k < mr_pc 20 (a2 c &&& mn) ∨ mr_pc 20 (a2 c &&& mn) + mr_pc 20 (a2 c &&& y) < k) → post 0)
    (H1 : mr_pc 20 (a2 c &&& mn) ≤ k → k ≤ mr_pc 20 (a2 c &&& mn) + mr_pc 20 (a2 c &&& y) → post 1) : wpX_canMeet post (w, cov, gc, rst, cel, mn, dm, df, cl, a1, a2, a3, a4, a5, a6, a7, a8, a9, a10) (nI c) y := by
  unfold wpX_canMeet
  dsimp only
  rw [nI_clamp (show c < 2 ^ 31 by omega), h1]
  have b1 := mr_pc_le 20 (a2 c &&& mn)
  have b2 := mr_pc_le 20 (a2 c &&& y)
  refine ⟨pk_in c 20 hc, mr_bits _ _ ⟨pk_in c 20 hc, mr_bits _ _ ⟨pk_in c 20 hc, ?_⟩⟩⟩
  exact pk_lt k (mr_pc 20 (a2 c &&& mn)) (fun z => H0 (Or.inl z)) (fun z => ⟨pk_in c 20 hc, pk_lt (mr_pc 20 (a2 c &&& mn) + mr_pc 20 (a2 c &&& y)) k (fun z2 => H0 (Or.inr z2)) (fun z2 => H1 z z2) (hx := nI_add _ _)⟩)
theorem mr_stand {post : Int32 → Prop} {w cov gc rst cel mn dm df cl : Int32} {a1 a2 a3 a4 a5 a6 a7 a8 a9 a10 : Nat → Int32} {c k : Nat} (h1 : mr_one a1 c k) (x y : Int32) (hx : ((a2 c) >>> (x &&& 31)) &&& 1 = 1)
    (H0 : (k < mr_pc 20 (a2 c &&& mn) ∨ mr_pc 20 (a2 c &&& mn) + mr_pc 20 (a2 c &&& y) < k) → post 0)
    (H1 : mr_pc 20 (a2 c &&& mn) ≤ k → k ≤ mr_pc 20 (a2 c &&& mn) + mr_pc 20 (a2 c &&& y) → post 1) : wpX_canStand post (w, cov, gc, rst, cel, mn, dm, df, cl, a1, a2, a3, a4, a5, a6, a7, a8, a9, a10) x y := by
  have fin : ∀ s : Int32, ((s = 0 ∧ post 0) ∨ (s = 1 ∧ post 1)) → narrow .boolean (.int s) = .int s ∧ post s := by
    intro s h
    rcases h with ⟨e, h⟩ | ⟨e, h⟩
    · rw [e]; exact ⟨mr_nar0, h⟩
    · rw [e]; exact ⟨mr_nar1, h⟩
  have hc := h1.1
  refine pk_loop (fun n i s => wX_canStand_5 post x y w cov gc rst cel mn dm df cl a1 a2 a3 a4 a5 a6 a7 a8 a9 a10 n s (nI i)) (fun i s => (i ≤ c → s = 1) ∧ (c < i → ((s = 0 ∧ post 0) ∨ (s = 1 ∧ post 1)))) 20 0 1 (by omega) ⟨fun _ => rfl, fun z => absurd z (by omega)⟩
    (fun n s h => pk_le 20 20 (fun _ => fin s (h.2 hc)) (fun z => absurd z (by omega)))
    (fun n i s hi h hw => ?_)
  obtain ⟨g1, g2⟩ := h
  refine pk_le 20 i (fun z => absurd z (by omega)) (fun _ => ?_)
  by_cases e : i = c
  · subst e
    have hs : s = 1 := g1 (Nat.le_refl i)
    subst hs
    refine br_f (by decide) ⟨pk_in i 20 hi, ?_⟩
    rw [nI_clamp (show i < 2 ^ 31 by omega)]
    exact br_f (mr_one_n h1) ⟨pk_in i 20 hi, mr_has _ _ _ (fun _ => br_f (by decide) (mr_meet hc h1.2.1 h1.2.2.1 y (fun q => br_t rfl (nm_r (nI_1 i) (hw 0 ⟨fun z => absurd z (by omega), fun _ => Or.inl ⟨rfl, H0 q⟩⟩))) (fun q q2 => br_f (by decide) (nm_r (nI_1 i) (hw 1 ⟨fun z => absurd z (by omega), fun _ => Or.inr ⟨rfl, H1 q q2⟩⟩))))) (fun z => absurd hx z)⟩
  · by_cases es : s = 0
    · refine br_t es (fin s (g2 ?_))
      rcases Nat.lt_or_ge c i with z | z
      · exact z
      · exact absurd ((g1 z).symm.trans es) (by decide)
    · refine br_f es ⟨pk_in i 20 hi, ?_⟩
      rw [nI_clamp (show i < 2 ^ 31 by omega)]
      refine br_t (h1.2.2.2 i hi e) (nm_r (nI_1 i) (hw 1 ⟨fun _ => rfl, fun z => Or.inr ⟨rfl, ?_⟩⟩))
      rcases g2 (by omega) with g | g
      · exact absurd g.1 es
      · exact g.2
theorem mr_try38 {post : Int32 → St2 → Prop} {w cov gc rst mn dm df cl : Int32} {a1 a2 a3 a4 a5 a6 a7 a8 a9 a10 : Nat → Int32} {c k K q : Nat} (h1 : mr_one a1 c k) (hK : K ≤ 20) (hq : q < K) (hx : ((a2 c) >>> ((a9 q) &&& 31)) &&& 1 = 1) (z : Int32)
    (H : ∀ y : Int32, (q + 1 = K → y = 0) →
      ((k < mr_pc 20 (a2 c &&& z) ∨ mr_pc 20 (a2 c &&& z) + mr_pc 20 (a2 c &&& y) < k) → post (nI q) (w, cov, gc, rst, nI K, z, dm, df, cl, a1, a2, a3, a4, a5, a6, a7, a8, a9, upd a10 q (a10 q + 1))) ∧
      (mr_pc 20 (a2 c &&& z) ≤ k → k ≤ mr_pc 20 (a2 c &&& z) + mr_pc 20 (a2 c &&& y) → post (nI (q + 1)) (w, cov, gc, rst, nI K, z, dm, df, cl, a1, a2, a3, a4, a5, a6, a7, a8, a9, upd (upd a10 q (a10 q + 1)) (q + 1) 0))) :
    wX_tryCell_38 post (nI q) (a9 q) z w cov gc rst (nI K) mn dm df cl a1 a2 a3 a4 a5 a6 a7 a8 a9 a10 := by
  unfold wX_tryCell_38
  rw [nI_1, nI_clamp (show q < 2 ^ 31 by omega), nI_clamp (show q + 1 < 2 ^ 31 by omega)]
  exact ⟨pk_in q 21 (by omega), pk_in q 21 (by omega), nm_e (mr_openF hK (by omega) (fun y hy => mr_stand h1 _ y hx (fun e => br_t rfl (br_t rfl ((H y hy).1 e))) (fun e1 e2 => br_f (by decide) ⟨pk_in (q + 1) 21 (by omega), nm_e (br_f (by decide) (ek_v (P := fun v => post v (w, cov, gc, rst, nI K, z, dm, df, cl, a1, a2, a3, a4, a5, a6, a7, a8, a9, upd (upd a10 q (a10 q + 1)) (q + 1) 0)) (nI_1 q) ((H y hy).2 e1 e2)))⟩)))⟩
theorem mr_try {post : Int32 → St2 → Prop} {w cov gc rst mn dm df cl : Int32} {a1 a2 a3 a4 a5 a6 a7 a8 a9 a10 : Nat → Int32} {c k K q : Nat} (h1 : mr_one a1 c k) (hK : K ≤ 20) (hq : q < K) (hx : ((a2 c) >>> ((a9 q) &&& 31)) &&& 1 = 1)
    (H : ∀ z : Int32, ((a10 q = 0 ∧ z = mn &&& (((1 : Int32) <<< ((a9 q) &&& 31)) ^^^ (-1))) ∨ (¬ a10 q = 0 ∧ z = mn ||| ((1 : Int32) <<< ((a9 q) &&& 31)))) → ∀ y : Int32, (q + 1 = K → y = 0) →
      ((k < mr_pc 20 (a2 c &&& z) ∨ mr_pc 20 (a2 c &&& z) + mr_pc 20 (a2 c &&& y) < k) → post (nI q) (w, cov, gc, rst, nI K, z, dm, df, cl, a1, a2, a3, a4, a5, a6, a7, a8, a9, upd a10 q (a10 q + 1))) ∧
      (mr_pc 20 (a2 c &&& z) ≤ k → k ≤ mr_pc 20 (a2 c &&& z) + mr_pc 20 (a2 c &&& y) → post (nI (q + 1)) (w, cov, gc, rst, nI K, z, dm, df, cl, a1, a2, a3, a4, a5, a6, a7, a8, a9, upd (upd a10 q (a10 q + 1)) (q + 1) 0))) :
    wpX_tryCell post (w, cov, gc, rst, nI K, mn, dm, df, cl, a1, a2, a3, a4, a5, a6, a7, a8, a9, a10) (nI q) := by
  unfold wpX_tryCell
  rw [nI_clamp (show q < 2 ^ 31 by omega)]
  refine ⟨pk_in q 20 (by omega), nm_e ⟨pk_in q 21 (by omega), ?_⟩⟩
  by_cases e : a10 q = 0
  · exact br_t e (mr_try38 h1 hK hq hx _ (H _ (Or.inl ⟨e, rfl⟩)))
  · exact br_f e (mr_try38 h1 hK hq hx _ (H _ (Or.inr ⟨e, rfl⟩)))
theorem mr_21 (m : Nat) : ((21 : Int32) * 0) + nI m = nI m := by
  rw [show (21 : Int32) * 0 = 0 by decide, Int32.zero_add]
theorem mr_note {post : St2 → Prop} {w cov gc rst cel mn dm df cl : Int32} {a1 a2 a3 a4 a5 a6 a7 a8 a9 a10 : Nat → Int32} (H : post (w, cov, gc, rst, cel, mn, dm, df, cl, a1, a2, a3, upd a4 (mr_pc 20 mn) (a4 (mr_pc 20 mn) + 1), a5, a6, a7, a8, a9, a10)) : wpX_noteWay post (w, cov, gc, rst, cel, mn, dm, df, cl, a1, a2, a3, a4, a5, a6, a7, a8, a9, a10) 0 (-1) := by
  have b1 := mr_pc_le 20 mn
  unfold wpX_noteWay
  refine mr_bits _ _ ?_
  rw [mr_21, nI_clamp (show mr_pc 20 mn < 2 ^ 31 by omega)]
  exact ⟨pk_in (mr_pc 20 mn) 420 (by omega), pk_in (mr_pc 20 mn) 420 (by omega), nm_e (br_t rfl H)⟩
end
section
theorem mr_m1 (q : Nat) : (q = 0 ∧ nI q + (-1) = (-1)) ∨ (0 < q ∧ nI q + (-1) = nI (q - 1)) := by
  rcases Nat.eq_zero_or_pos q with e | e
  · exact Or.inl ⟨e, by rw [e]; rfl⟩
  · exact Or.inr ⟨e, sb_m1 e⟩
-- a clue of one or more: ways[0] stays 0
theorem mr_fillP {post : St2 → Prop} {w cov gc rst mn dm df cl : Int32} {a1 a2 a3 a4 a5 a6 a7 a8 a9 a10 : Nat → Int32} {c k K : Nat} (h1 : mr_one a1 c k) (hk : 1 ≤ k) (hK1 : 1 ≤ K) (hK : K ≤ 20) (hx : ∀ j, j < K → ((a2 c) >>> ((a9 j) &&& 31)) &&& 1 = 1) (h4 : a4 0 = 0)
    (H : ∀ (m : Int32) (b4 b10 : Nat → Int32), b4 0 = 0 → post (w, cov, gc, rst, nI K, m, dm, df, cl, a1, a2, a3, b4, a5, a6, a7, a8, a9, b10)) : ∃ n, wX_fillGroup_65 post 0 (-1) n 0 0 w cov gc rst (nI K) mn dm df cl a1 a2 a3 a4 a5 a6 a7 a8 a9 a10 := by
  refine pk_loop (σ := Int32 × Int32 × (Nat → Int32) × (Nat → Int32)) (fun n i s => wX_fillGroup_65 post 0 (-1) n s.1 (nI i) w cov gc rst (nI K) s.2.1 dm df cl a1 a2 a3 s.2.2.1 a5 a6 a7 a8 a9 s.2.2.2)
    (fun i s => s.2.2.1 0 = 0 ∧ (s.1 = (-1) ∨ ∃ q, q ≤ K ∧ s.1 = nI q ∧ (q = K → ¬ (a2 c) &&& s.2.1 = 0))) 5000000 0 (0, mn, a4, a10) (by omega) ⟨h4, Or.inr ⟨0, Nat.zero_le K, rfl, fun e => absurd e (by omega)⟩⟩
    (fun n s h => pk_le 5000000 5000000 (fun _ => H s.2.1 s.2.2.1 s.2.2.2 h.1) (fun z => absurd z (by omega)))
    (fun n i s hi h hw => ?_)
  obtain ⟨x3, m, b4, b10⟩ := s
  obtain ⟨g4, g⟩ := h
  replace g4 : b4 0 = 0 := g4
  replace g : x3 = (-1) ∨ ∃ q, q ≤ K ∧ x3 = nI q ∧ (q = K → ¬ (a2 c) &&& m = 0) := g
  have hv : ∀ (x m : Int32) (b4 b10 : Nat → Int32), b4 0 = 0 → (x = (-1) ∨ ∃ q, q ≤ K ∧ x = nI q ∧ (q = K → ¬ (a2 c) &&& m = 0)) → wX_fillGroup_65 post 0 (-1) n x (nI (i + 1)) w cov gc rst (nI K) m dm df cl a1 a2 a3 b4 a5 a6 a7 a8 a9 b10 :=
    fun x m b4 b10 e1 e2 => hw (x, m, b4, b10) ⟨e1, e2⟩
  show wX_fillGroup_65 post 0 (-1) (n + 1) x3 (nI i) w cov gc rst (nI K) m dm df cl a1 a2 a3 b4 a5 a6 a7 a8 a9 b10
  refine pk_le 5000000 i (fun z => absurd z (by omega)) (fun _ => ?_)
  rcases g with e | ⟨q, hq, e, gq⟩
  · rw [e]
    exact br_t (by decide) (H m b4 b10 g4)
  · rw [e]
    refine br_f (nI_pos (by omega)) (pk_eq q K (fun e => ?_) (fun e => ⟨pk_in q 21 (by omega), ?_⟩))
    · have hm : ¬ m = 0 := fun z => gq e (by rw [z, Int32.and_zero])
      have hp := mr_pc_pos hm
      refine mr_note (nm_r (sb_m1 (show 0 < q by omega)) (nm_r (nI_1 i) (hv _ _ _ _ ?_ (Or.inr ⟨q - 1, by omega, rfl, fun z => absurd z (by omega)⟩))))
      rw [pk_un (by omega)]
      exact g4
    · rw [nI_clamp (show q < 2 ^ 31 by omega)]
      by_cases e2 : b10 q = 2
      · refine br_t e2 ⟨pk_in q 20 (by omega), nm_e ?_⟩
        rcases mr_m1 q with ⟨eq, em⟩ | ⟨eq, em⟩
        · exact nm_r em (nm_r (nI_1 i) (hv _ _ _ _ g4 (Or.inl rfl)))
        · exact nm_r em (nm_r (nI_1 i) (hv _ _ _ _ g4 (Or.inr ⟨q - 1, by omega, rfl, fun z => absurd z (by omega)⟩)))
      · refine br_f e2 (mr_try h1 hK (show q < K by omega) (hx q (by omega)) (fun z hz y hy => ⟨fun _ => nm_r (nI_1 i) (hv _ _ _ _ g4 (Or.inr ⟨q, hq, rfl, fun z => absurd z e⟩)), fun e3 e4 => nm_r (nI_1 i) (hv _ _ _ _ g4 (Or.inr ⟨q + 1, by omega, rfl, fun e5 e6 => ?_⟩))⟩))
        rw [e6, mr_pc_0, hy e5, Int32.and_zero, mr_pc_0] at e4
        omega
-- a clue of nought: down with no mine, one way, up again
def mr_Z (K : Nat) (a9 : Nat → Int32) (i : Nat) (x m : Int32) (b4 b10 : Nat → Int32) : Prop :=
  (∃ q, q ≤ K ∧ i = q ∧ x = nI q ∧ m = 0 ∧ b4 0 = 0 ∧ (∀ j, j < q → b10 j = 1) ∧ b10 q = 0) ∨
  (b4 0 = 1 ∧ (x = (-1) ∨ ∃ q, q < K ∧ x = nI q ∧ (∀ j, j < q → b10 j = 1) ∧ ((b10 q = 1 ∧ m = 0) ∨ (b10 q = 2 ∧ m = (1 : Int32) <<< ((a9 q) &&& 31)))))
theorem mr_Zm {K : Nat} {a9 : Nat → Int32} {i q : Nat} {x : Int32} {b4 b10 : Nat → Int32} (hq : q < K) (h4 : b4 0 = 1) (hb : ∀ j, j < q → b10 j = 1) (hx : x = nI q + (-1)) : mr_Z K a9 i x 0 b4 b10 := by
  rcases mr_m1 q with ⟨eq, em⟩ | ⟨eq, em⟩
  · exact Or.inr ⟨h4, Or.inl (hx.trans em)⟩
  · exact Or.inr ⟨h4, Or.inr ⟨q - 1, by omega, hx.trans em, fun j hj => hb j (by omega), Or.inl ⟨hb _ (by omega), rfl⟩⟩⟩
theorem mr_fillZ {post : St2 → Prop} {w cov gc rst mn dm df cl : Int32} {a1 a2 a3 a4 a5 a6 a7 a8 a9 a10 : Nat → Int32} {c K : Nat} (h1 : mr_one a1 c 0) (hN : a2 c = mr_N c) (hK1 : 1 ≤ K) (hK : K ≤ 20) (hx : ∀ j, j < K → ∃ d, d < 20 ∧ a9 j = nI d ∧ (mr_N c >>> (nI d &&& 31)) &&& 1 = 1) (h4 : a4 0 = 0) (hm : mn = 0) (h10 : a10 0 = 0)
    (H : ∀ (m : Int32) (b4 b10 : Nat → Int32), b4 0 = 1 → post (w, cov, gc, rst, nI K, m, dm, df, cl, a1, a2, a3, b4, a5, a6, a7, a8, a9, b10)) : ∃ n, wX_fillGroup_65 post 0 (-1) n 0 0 w cov gc rst (nI K) mn dm df cl a1 a2 a3 a4 a5 a6 a7 a8 a9 a10 := by
  have hx2 : ∀ j, j < K → ((a2 c) >>> ((a9 j) &&& 31)) &&& 1 = 1 := by
    intro j hj
    obtain ⟨d, hd, e1, e2⟩ := hx j hj
    rw [hN, e1]
    exact e2
  have hb1 : ∀ j, j < K → ¬ (a2 c) &&& ((1 : Int32) <<< ((a9 j) &&& 31)) = 0 := by
    intro j hj
    obtain ⟨d, hd, e1, e2⟩ := hx j hj
    rw [hN, e1]
    exact mr_f7 c h1.1 d hd e2
  have hb2 : ∀ j, j < K → ((1 : Int32) <<< ((a9 j) &&& 31)) &&& (((1 : Int32) <<< ((a9 j) &&& 31)) ^^^ (-1)) = 0 := by
    intro j hj
    obtain ⟨d, hd, e1, e2⟩ := hx j hj
    rw [e1]
    exact mr_f8 d hd
  refine pk_loop (σ := Int32 × Int32 × (Nat → Int32) × (Nat → Int32)) (fun n i s => wX_fillGroup_65 post 0 (-1) n s.1 (nI i) w cov gc rst (nI K) s.2.1 dm df cl a1 a2 a3 s.2.2.1 a5 a6 a7 a8 a9 s.2.2.2)
    (fun i s => mr_Z K a9 i s.1 s.2.1 s.2.2.1 s.2.2.2) 5000000 0 (0, mn, a4, a10) (by omega) (Or.inl ⟨0, Nat.zero_le K, rfl, rfl, hm, h4, fun j hj => absurd hj (Nat.not_lt_zero j), h10⟩)
    (fun n s h => pk_le 5000000 5000000 (fun _ => ?_) (fun z => absurd z (by omega)))
    (fun n i s hi h hw => ?_)
  · rcases h with ⟨q, hq, e, _⟩ | h
    · omega
    · exact H _ _ _ h.1
  obtain ⟨x3, m, b4, b10⟩ := s
  have hv : ∀ (x m : Int32) (b4 b10 : Nat → Int32), mr_Z K a9 (i + 1) x m b4 b10 → wX_fillGroup_65 post 0 (-1) n x (nI (i + 1)) w cov gc rst (nI K) m dm df cl a1 a2 a3 b4 a5 a6 a7 a8 a9 b10 :=
    fun x m b4 b10 e => hw (x, m, b4, b10) e
  replace h : mr_Z K a9 i x3 m b4 b10 := h
  show wX_fillGroup_65 post 0 (-1) (n + 1) x3 (nI i) w cov gc rst (nI K) m dm df cl a1 a2 a3 b4 a5 a6 a7 a8 a9 b10
  refine pk_le 5000000 i (fun z => absurd z (by omega)) (fun _ => ?_)
  rcases h with ⟨q, hq, ei, e, em, g4, gj, gq⟩ | ⟨g4, g⟩
  · subst e em
    refine br_f (nI_pos (by omega)) (pk_eq q K (fun e => ?_) (fun e => ⟨pk_in q 21 (by omega), ?_⟩))
    · refine mr_note (nm_e (nm_r (nI_1 i) (hv _ _ _ _ (Or.inr ⟨?_, Or.inr ⟨q - 1, by omega, sb_m1 (by omega), fun j hj => gj j (by omega), Or.inl ⟨gj _ (by omega), rfl⟩⟩⟩))))
      rw [mr_pc_0, pk_us, g4]
      rfl
    · rw [nI_clamp (show q < 2 ^ 31 by omega)]
      refine br_f (by rw [gq]; decide) (mr_try h1 hK (show q < K by omega) (hx2 q (by omega)) (fun z hz y hy => ?_))
      have ez : z = 0 := by
        rcases hz with ⟨_, ez⟩ | ⟨ez, _⟩
        · rw [ez, Int32.zero_and]
        · exact absurd gq ez
      subst ez
      rw [Int32.and_zero, mr_pc_0]
      refine ⟨fun e3 => absurd e3 (by omega), fun e3 e4 => nm_r (nI_1 i) (hv _ _ _ _ (Or.inl ⟨q + 1, by omega, by omega, rfl, rfl, g4, fun j hj => ?_, pk_us⟩))⟩
      rw [pk_un (by omega)]
      by_cases ej : j = q
      · rw [ej, pk_us, gq]
        rfl
      · rw [pk_un ej]
        exact gj j (by omega)
  · rcases g with e | ⟨q, hq, e, gj, gq⟩
    · subst e
      exact br_t (by decide) (H m b4 b10 g4)
    · subst e
      refine br_f (nI_pos (by omega)) (pk_eq q K (fun e => absurd e (by omega)) (fun e => ⟨pk_in q 21 (by omega), ?_⟩))
      rw [nI_clamp (show q < 2 ^ 31 by omega)]
      rcases gq with ⟨gq, em⟩ | ⟨gq, em⟩
      · subst em
        refine br_f (by rw [gq]; decide) (mr_try h1 hK hq (hx2 q hq) (fun z hz y hy => ?_))
        have ez : z = (1 : Int32) <<< ((a9 q) &&& 31) := by
          rcases hz with ⟨ez, _⟩ | ⟨_, ez⟩
          · rw [gq] at ez
            exact absurd ez (by decide)
          · rw [ez, Int32.zero_or]
        have hp := mr_pc_pos (hb1 q hq)
        rw [← ez] at hp
        refine ⟨fun _ => nm_r (nI_1 i) (hv _ _ _ _ (Or.inr ⟨g4, Or.inr ⟨q, hq, rfl, fun j hj => ?_, Or.inr ⟨?_, ez⟩⟩⟩)), fun e3 => absurd e3 (by omega)⟩
        · rw [pk_un (by omega)]
          exact gj j hj
        · rw [pk_us, gq]
          rfl
      · exact br_t gq ⟨pk_in q 20 (by omega), nm_r (by rw [em]; exact hb2 q hq) (nm_e (nm_r (nI_1 i) (hv _ _ _ _ (mr_Zm hq g4 gj rfl))))⟩
theorem mr_fill12 {post : St2 → Prop} {w cov gc rst mn dm df cl : Int32} {a1 a2 a3 a4 a5 a6 a7 a8 a9 a10 : Nat → Int32} {c k K : Nat} (h1 : mr_one a1 c k) (hN : a2 c = mr_N c) (hK1 : 1 ≤ K) (hK : K ≤ 20) (hx : ∀ j, j < K → ∃ d, d < 20 ∧ a9 j = nI d ∧ (mr_N c >>> (nI d &&& 31)) &&& 1 = 1)
    (H : ∀ (m : Int32) (b4 b5 b10 : Nat → Int32), b4 0 = (if k = 0 then 1 else 0) → post (w, cov, gc, rst, nI K, m, dm, df, cl, a1, a2, a3, b4, b5, a6, a7, a8, a9, b10)) : ∃ n, wX_fillGroup_12 post 0 (-1) w cov gc rst (nI K) mn dm df cl n 0 a1 a2 a3 a4 a5 a6 a7 a8 a9 a10 := by
  refine pk_loop (σ := (Nat → Int32) × (Nat → Int32)) (fun n i s => wX_fillGroup_12 post 0 (-1) w cov gc rst (nI K) mn dm df cl n (nI i) a1 a2 a3 s.1 s.2 a6 a7 a8 a9 a10)
    (fun i s => 0 < i → s.1 0 = 0) 21 0 (a4, a5) (by omega) (fun z => absurd z (by omega))
    (fun n s h => pk_le 21 21 (fun _ => nm_e ?_) (fun z => absurd z (by omega)))
    (fun n i s hi h hw => pk_le 21 i (fun z => absurd z (by omega)) (fun _ => ?_))
  · have h4 : s.1 0 = 0 := h (by omega)
    by_cases e : k = 0
    · subst e
      exact mr_fillZ h1 hN hK1 hK hx h4 rfl pk_us (fun m b4 b10 g => H m b4 s.2 b10 g)
    · refine mr_fillP h1 (by omega) hK1 hK (fun j hj => ?_) h4 (fun m b4 b10 g => H m b4 s.2 b10 (g.trans (if_neg e).symm))
      obtain ⟨d, hd, e1, e2⟩ := hx j hj
      rw [hN, e1]
      exact e2
  · rw [mr_21, nI_clamp (show i < 2 ^ 31 by omega)]
    refine ⟨pk_in i 420 (by omega), nm_e ⟨pk_in i 420 (by omega), nm_e (nm_r (nI_1 i) (hw (upd s.1 i 0, upd s.2 i 0) (fun _ => ?_)))⟩⟩
    show upd s.1 i 0 0 = 0
    by_cases e : i = 0
    · rw [e, pk_us]
    · rw [pk_un (by omega)]
      exact h (by omega)
theorem mr_fill {post : St2 → Prop} {w cov gc rst cel mn dm df cl : Int32} {a1 a2 a3 a4 a5 a6 a7 a8 a9 a10 : Nat → Int32} {c k : Nat} (h1 : mr_one a1 c k) (hN : a2 c = mr_N c) (h3 : a3 0 = mr_N c)
    (H : ∀ (K m : Int32) (b4 b5 b9 b10 : Nat → Int32), b4 0 = (if k = 0 then 1 else 0) → post (w, cov, gc, rst, K, m, dm, df, cl, a1, a2, a3, b4, b5, a6, a7, a8, b9, b10)) : wpX_fillGroup post (w, cov, gc, rst, cel, mn, dm, df, cl, a1, a2, a3, a4, a5, a6, a7, a8, a9, a10) 0 (-1) := by
  unfold wpX_fillGroup
  rw [sb_cl0]
  refine ⟨pk_in 0 20 (by omega), ?_⟩
  rw [h3]
  exact mr_list (mr_N c) (mr_f6 c h1.1) (fun K b9 hK1 hK hx => mr_fill12 h1 hN hK1 hK hx (fun m b4 b5 b10 g => H _ m b4 b5 b9 b10 g))
end
section
theorem mr_jw116 {post : St2 → Prop} {w cov gc rst cel mn dm df cl : Int32} {a1 a2 a3 a4 a5 a6 a7 a8 a9 a10 : Nat → Int32} (H : ∀ b6 : Nat → Int32, b6 0 = a7 0 → post (w, cov, gc, rst, cel, mn, dm, df, cl, a1, a2, a3, a4, a5, b6, a7, a8, a9, a10)) : ∃ n, wX_joinWays_116 post w cov gc rst cel mn dm df cl n 0 a1 a2 a3 a4 a5 a6 a7 a8 a9 a10 := by
  refine pk_loop (fun n i s => wX_joinWays_116 post w cov gc rst cel mn dm df cl n (nI i) a1 a2 a3 a4 a5 s a7 a8 a9 a10) (fun i s => 0 < i → s 0 = a7 0) 21 0 a6 (by omega) (fun z => absurd z (by omega))
    (fun n s h => pk_le 21 21 (fun _ => H s (h (by omega))) (fun z => absurd z (by omega)))
    (fun n i s hi h hw => pk_le 21 i (fun z => absurd z (by omega)) (fun _ => ⟨pk_in i 21 hi, pk_in i 21 hi, ?_⟩))
  rw [nI_clamp (show i < 2 ^ 31 by omega)]
  refine nm_e (nm_r (nI_1 i) (hw _ (fun _ => ?_)))
  by_cases e : i = 0
  · rw [e, pk_us]
  · rw [pk_un (by omega)]
    exact h (by omega)
theorem mr_acc {a6 b s : Nat → Int32} {i m : Nat} (h : s 0 = if i = 0 ∧ m = 0 then 0 else a6 0 * b 0) : upd s (i + m) (s (i + m) + a6 i * b m) 0 = if i = 0 ∧ m + 1 = 0 then 0 else a6 0 * b 0 := by
  rw [if_neg (show ¬ (i = 0 ∧ m + 1 = 0) by omega)]
  by_cases e : i = 0 ∧ m = 0
  · obtain ⟨e1, e2⟩ := e
    subst e1 e2
    rw [if_pos ⟨rfl, rfl⟩] at h
    show upd s 0 (s 0 + a6 0 * b 0) 0 = a6 0 * b 0
    rw [pk_us, h, Int32.zero_add]
  · rw [if_neg e] at h
    rw [pk_un (show 0 ≠ i + m by omega)]
    exact h
theorem mr_jw32 {post : St2 → Prop} {w cov gc rst cel mn dm df cl : Int32} {a1 a2 a3 a4 a5 a6 a7 a8 a9 a10 : Nat → Int32} {J : Int32 → (Nat → Int32) → (Nat → Int32) → (Nat → Int32) → (Nat → Int32) → (Nat → Int32) → (Nat → Int32) → (Nat → Int32) → (Nat → Int32) → (Nat → Int32) → (Nat → Int32) → Prop} {i : Nat} (hi : i < 21) (h7 : a7 0 = if i = 0 then 0 else a6 0 * a4 0)
    (H : ∀ b7 : Nat → Int32, b7 0 = a6 0 * a4 0 → J (nI (i + 1)) a1 a2 a3 a4 a5 a6 b7 a8 a9 a10) : ∃ n, wX_joinWays_32 post J 0 0 (nI i) w cov gc rst cel mn dm df cl n 0 a1 a2 a3 a4 a5 a6 a7 a8 a9 a10 := by
  refine pk_loop (fun n m s => wX_joinWays_32 post J 0 0 (nI i) w cov gc rst cel mn dm df cl n (nI m) a1 a2 a3 a4 a5 a6 s a8 a9 a10) (fun m s => s 0 = if i = 0 ∧ m = 0 then 0 else a6 0 * a4 0) (21 - i) 0 a7 (by omega) (h7.trans ?_)
    (fun n s h => pk_le 21 (21 - i + i) (fun _ => nm_r (nI_1 i) (H s (Eq.trans h (if_neg (by omega))))) (fun z => absurd z (by omega)) (hy := nI_add _ _))
    (fun n m s hm h hw => pk_le 21 (m + i) (fun z => absurd z (by omega)) (fun _ => br_t rfl ⟨pk_in m 420 (by omega) (mr_21 m), ?_⟩) (hy := nI_add _ _))
  · by_cases e : i = 0
    · rw [if_pos e, if_pos ⟨e, rfl⟩]
    · rw [if_neg e, if_neg (fun z => e z.1)]
  · unfold wX_joinWays_72
    rw [mr_21, nI_add, nI_clamp (show i < 2 ^ 31 by omega), nI_clamp (show m < 2 ^ 31 by omega), nI_clamp (show i + m < 2 ^ 31 by omega)]
    exact ⟨pk_in (i + m) 21 (by omega), pk_in i 21 hi, pk_in (i + m) 21 (by omega), nm_e (nm_r (nI_1 m) (hw _ (mr_acc h)))⟩
theorem mr_jw {post : St2 → Prop} {w cov gc rst cel mn dm df cl : Int32} {a1 a2 a3 a4 a5 a6 a7 a8 a9 a10 : Nat → Int32} (H : ∀ b6 b7 : Nat → Int32, b6 0 = a6 0 * a4 0 → post (w, cov, gc, rst, cel, mn, dm, df, cl, a1, a2, a3, a4, a5, b6, b7, a8, a9, a10)) : wpX_joinWays post (w, cov, gc, rst, cel, mn, dm, df, cl, a1, a2, a3, a4, a5, a6, a7, a8, a9, a10) 0 0 := by
  refine pk_loop (fun n i s => wX_joinWays_2 post 0 0 w cov gc rst cel mn dm df cl n (nI i) a1 a2 a3 a4 a5 a6 s a8 a9 a10) (fun i s => 0 < i → s 0 = 0) 21 0 a7 (by omega) (fun z => absurd z (by omega))
    (fun n s h => pk_le 21 21 (fun _ => ?_) (fun z => absurd z (by omega)))
    (fun n i s hi h hw => pk_le 21 i (fun z => absurd z (by omega)) (fun _ => ⟨pk_in i 21 hi, ?_⟩))
  · exact pk_loop (fun n i s => wX_joinWays_23 post 0 0 w cov gc rst cel mn dm df cl n (nI i) a1 a2 a3 a4 a5 a6 s a8 a9 a10) (fun i s => s 0 = if i = 0 then 0 else a6 0 * a4 0) 21 0 s (by omega) (h (by omega))
      (fun n s h => pk_le 21 21 (fun _ => mr_jw116 (fun b6 g => H b6 s (g.trans h))) (fun z => absurd z (by omega)))
      (fun n i s hi h hw => pk_le 21 i (fun z => absurd z (by omega)) (fun _ => mr_jw32 hi h (fun b7 g => hw b7 (Eq.trans g (if_neg (by omega)).symm))))
  · rw [nI_clamp (show i < 2 ^ 31 by omega)]
    refine nm_e (nm_r (nI_1 i) (hw _ (fun _ => ?_)))
    by_cases e : i = 0
    · rw [e, pk_us]
    · rw [pk_un (by omega)]
      exact h (by omega)
theorem mr_jr116 {post : St2 → Prop} {w cov gc rst cel mn dm df cl : Int32} {a1 a2 a3 a4 a5 a6 a7 a8 a9 a10 : Nat → Int32} (H : ∀ b6 : Nat → Int32, b6 0 = a7 0 → post (w, cov, gc, rst, cel, mn, dm, df, cl, a1, a2, a3, a4, a5, b6, a7, a8, a9, a10)) : ∃ n, wX_joinRest_116 post w cov gc rst cel mn dm df cl n 0 a1 a2 a3 a4 a5 a6 a7 a8 a9 a10 := by
  refine pk_loop (fun n i s => wX_joinRest_116 post w cov gc rst cel mn dm df cl n (nI i) a1 a2 a3 a4 a5 s a7 a8 a9 a10) (fun i s => 0 < i → s 0 = a7 0) 21 0 a6 (by omega) (fun z => absurd z (by omega))
    (fun n s h => pk_le 21 21 (fun _ => H s (h (by omega))) (fun z => absurd z (by omega)))
    (fun n i s hi h hw => pk_le 21 i (fun z => absurd z (by omega)) (fun _ => ⟨pk_in i 21 hi, pk_in i 21 hi, ?_⟩))
  rw [nI_clamp (show i < 2 ^ 31 by omega)]
  refine nm_e (nm_r (nI_1 i) (hw _ (fun _ => ?_)))
  by_cases e : i = 0
  · rw [e, pk_us]
  · rw [pk_un (by omega)]
    exact h (by omega)
theorem mr_jr43 {post : St2 → Prop} {w cov gc rst cel mn dm df cl : Int32} {a1 a2 a3 a4 a5 a6 a7 a8 a9 a10 : Nat → Int32} {J : Int32 → (Nat → Int32) → (Nat → Int32) → (Nat → Int32) → (Nat → Int32) → (Nat → Int32) → (Nat → Int32) → (Nat → Int32) → (Nat → Int32) → (Nat → Int32) → (Nat → Int32) → Prop} {i z : Nat} (hi : i < 21) (hz : z ≤ 20) (h7 : a7 0 = if i = 0 then 0 else a6 0 * a8 (21 * z))
    (H : ∀ b7 : Nat → Int32, b7 0 = a6 0 * a8 (21 * z) → J (nI (i + 1)) a1 a2 a3 a4 a5 a6 b7 a8 a9 a10) : ∃ n, wX_joinRest_43 post J 0 (nI z) (nI i) w cov gc rst cel mn dm df cl n 0 a1 a2 a3 a4 a5 a6 a7 a8 a9 a10 := by
  refine pk_loop (fun n m s => wX_joinRest_43 post J 0 (nI z) (nI i) w cov gc rst cel mn dm df cl n (nI m) a1 a2 a3 a4 a5 a6 s a8 a9 a10) (fun m s => s 0 = if i = 0 ∧ m = 0 then 0 else a6 0 * (fun j => a8 (21 * z + j)) 0) (min (z + 1) (21 - i)) 0 a7 (by omega) (h7.trans ?_)
    (fun n s h => ?_)
    (fun n m s hm h hw => pk_lt z m (fun z => absurd z (by omega)) (fun _ => ?_))
  · by_cases e : i = 0
    · rw [if_pos e, if_pos ⟨e, rfl⟩]
    · rw [if_neg e, if_neg (fun z => e z.1)]
      rfl
  · have h' : s 0 = a6 0 * a8 (21 * z) := Eq.trans h (if_neg (by omega))
    refine pk_lt z (min (z + 1) (21 - i)) (fun _ => nm_r (nI_1 i) (H s h')) (fun e => ?_)
    rw [nI_add, Int32.add_zero]
    exact pk_le 21 (min (z + 1) (21 - i) + i) (fun _ => nm_r (nI_1 i) (H s h')) (fun e => absurd e (by omega))
  · rw [nI_add, Int32.add_zero, nI_add, Int32.add_zero, show (21 : Int32) * nI z = nI (21 * z) from pk_mul 21 z, nI_add, nI_clamp (show i < 2 ^ 31 by omega), nI_clamp (show i + m < 2 ^ 31 by omega), nI_clamp (show 21 * z + m < 2 ^ 31 by omega)]
    exact pk_le 21 (m + i) (fun z => absurd z (by omega)) (fun _ => ⟨pk_in (i + m) 21 (by omega), pk_in i 21 hi, pk_in (21 * z + m) 441 (by omega), pk_in (i + m) 21 (by omega), nm_e (nm_r (nI_1 m) (hw _ (mr_acc (b := fun j => a8 (21 * z + j)) h)))⟩)
theorem mr_jr {post : St2 → Prop} {w cov gc rst cel mn dm df cl : Int32} {a1 a2 a3 a4 a5 a6 a7 a8 a9 a10 : Nat → Int32} (h8 : ∀ j, j < 21 → a8 (21 * j) = 1) (H : ∀ b6 b7 : Nat → Int32, b6 0 = a6 0 → post (w, cov, gc, rst, cel, mn, dm, df, cl, a1, a2, a3, a4, a5, b6, b7, a8, a9, a10)) : wpX_joinRest post (w, cov, gc, rst, cel, mn, dm, df, cl, a1, a2, a3, a4, a5, a6, a7, a8, a9, a10) 0 := by
  have hz := mr_pc_le 20 rst
  have e8 := h8 _ (show mr_pc 20 rst < 21 by omega)
  unfold wpX_joinRest
  refine mr_bits _ _ (nm_r (Int32.sub_zero _) ?_)
  refine pk_loop (fun n i s => wX_joinRest_13 post 0 (nI (mr_pc 20 rst)) w cov gc rst cel mn dm df cl n (nI i) a1 a2 a3 a4 a5 a6 s a8 a9 a10) (fun i s => 0 < i → s 0 = 0) 21 0 a7 (by omega) (fun z => absurd z (by omega))
    (fun n s h => pk_le 21 21 (fun _ => ?_) (fun z => absurd z (by omega)))
    (fun n i s hi h hw => pk_le 21 i (fun z => absurd z (by omega)) (fun _ => ⟨pk_in i 21 hi, ?_⟩))
  · exact pk_loop (fun n i s => wX_joinRest_34 post 0 (nI (mr_pc 20 rst)) w cov gc rst cel mn dm df cl n (nI i) a1 a2 a3 a4 a5 a6 s a8 a9 a10) (fun i s => s 0 = if i = 0 then 0 else a6 0 * a8 (21 * mr_pc 20 rst)) 21 0 s (by omega) (h (by omega))
      (fun n s h => pk_le 21 21 (fun _ => mr_jr116 (fun b6 g => H b6 s (g.trans (Eq.trans h (by show a6 0 * a8 (21 * mr_pc 20 rst) = a6 0; rw [e8, Int32.mul_one]))))) (fun z => absurd z (by omega)))
      (fun n i s hi h hw => pk_le 21 i (fun z => absurd z (by omega)) (fun _ => mr_jr43 hi hz h (fun b7 g => hw b7 (Eq.trans g (if_neg (by omega)).symm))))
  · rw [nI_clamp (show i < 2 ^ 31 by omega)]
    refine nm_e (nm_r (nI_1 i) (hw _ (fun _ => ?_)))
    by_cases e : i = 0
    · rw [e, pk_us]
    · rw [pk_un (by omega)]
      exact h (by omega)
end
section
theorem mr_ca6 {post : St2 → Prop} {w cov gc rst cel mn dm df cl : Int32} {a1 a2 a3 a4 a5 a6 a7 a8 a9 a10 : Nat → Int32} (h1 : ∀ j, j < 20 → a1 j = (-1) ∨ ¬ (a2 j) &&& cov = 0)
    (H : ∀ b6 : Nat → Int32, b6 0 = 1 → ∃ n, wX_countAll_45 post (-1) n 0 w cov gc rst cel mn dm df cl a1 a2 a3 a4 a5 b6 a7 a8 a9 a10) : ∃ n, wX_countAll_6 post (-1) w cov gc rst cel mn dm df cl n 0 a1 a2 a3 a4 a5 a6 a7 a8 a9 a10 := by
  refine pk_loop (fun n i s => wX_countAll_6 post (-1) w cov gc rst cel mn dm df cl n (nI i) a1 a2 a3 a4 a5 s a7 a8 a9 a10) (fun _ _ => True) 21 0 a6 (by omega) trivial
    (fun n s _ => pk_le 21 21 (fun _ => mr_empty h1 (br_f (by decide) (nm_e (H _ pk_us)))) (fun z => absurd z (by omega)))
    (fun n i s hi _ hw => pk_le 21 i (fun z => absurd z (by omega)) (fun _ => ⟨pk_in i 21 hi, nm_e (nm_r (nI_1 i) (hw _ trivial))⟩))
theorem mr_ca117 {post : St2 → Prop} {w cov gc rst cel mn dm df cl : Int32} {a1 a2 a3 a4 a5 a6 a7 a8 a9 a10 : Nat → Int32} (h8 : ∀ j, j < 21 → a8 (21 * j) = 1) (H : ∀ b6 b7 : Nat → Int32, b6 0 = a6 0 → post (w, cov, gc, rst, cel, mn, dm, df, cl, a1, a2, a3, a4, a5, b6, b7, a8, a9, a10)) : wX_countAll_117 post 0 w cov gc rst cel mn dm df cl a1 a2 a3 a4 a5 a6 a7 a8 a9 a10 := by
  unfold wX_countAll_117
  exact mr_jr h8 (fun b6 b7 g => H b6 b7 g)
theorem mr_ca85 {post : St2 → Prop} {w cov gc rst cel mn dm df cl : Int32} {a1 a2 a3 a4 a5 a6 a7 a8 a9 a10 : Nat → Int32} {x1 x2 : Int32} {J : Int32 → Int32 → Int32 → Int32 → Int32 → Int32 → Int32 → Int32 → Int32 → Int32 → (Nat → Int32) → (Nat → Int32) → (Nat → Int32) → (Nat → Int32) → (Nat → Int32) → (Nat → Int32) → (Nat → Int32) → (Nat → Int32) → (Nat → Int32) → (Nat → Int32) → Prop}
    (H : ∀ b6 b7 : Nat → Int32, b6 0 = a6 0 * a4 0 → J (x2 + 1) w cov gc rst cel mn dm df cl a1 a2 a3 a4 a5 b6 b7 a8 a9 a10) : wX_countAll_85 post J x1 x2 0 0 w cov gc rst cel mn dm df cl a1 a2 a3 a4 a5 a6 a7 a8 a9 a10 := by
  unfold wX_countAll_85
  exact mr_jw (fun b6 b7 g => nm_e (H b6 b7 g))
theorem mr_count {post : St2 → Prop} {w cov gc rst cel mn dm df cl : Int32} {a1 a2 a3 a4 a5 a6 a7 a8 a9 a10 : Nat → Int32} {c k : Nat} (h1 : mr_one a1 c k) (hN : a2 c = mr_N c) (hC : cov = mr_C c) (h8 : ∀ j, j < 21 → a8 (21 * j) = 1)
    (H : ∀ (g r K m : Int32) (b3 b4 b5 b6 b7 b9 b10 : Nat → Int32), b6 0 = (if k = 0 then 1 else 0) → post (w, cov, g, r, K, m, dm, df, cl, a1, a2, b3, b4, b5, b6, b7, a8, b9, b10)) : wpX_countAll post (w, cov, gc, rst, cel, mn, dm, df, cl, a1, a2, a3, a4, a5, a6, a7, a8, a9, a10) (-1) := by
  have hc := h1.1
  have hM : (a2 c) &&& cov = mr_N c := by rw [hN, hC]; exact mr_f2 c hc
  unfold wpX_countAll
  refine mr_grp h1 hM (mr_ca6 (fun j hj => ?_) (fun b6 e6 => Exists.intro 2 (pk_le 1 0 (fun z => absurd z (by omega)) (fun _ => mr_fill h1 hN pk_us (fun K m b4 b5 b9 b10 e4 => br_t rfl (mr_ca85 (fun c6 c7 f6 => pk_le 1 1 (fun _ => br_t rfl (mr_ca117 h8 (fun d6 d7 k6 => H _ _ _ _ _ _ _ _ _ _ _ ?_))) (fun z => absurd z (by omega)))))))))
  · by_cases e : j = c
    · rw [e, hM]
      exact Or.inr (mr_f1 c hc)
    · exact Or.inl (h1.2.2.2 j hj e)
  · rw [k6, f6, e6, Int32.one_mul, e4]
theorem mr_count_non {post : St2 → Prop} {w cov gc rst cel mn dm df cl : Int32} {a1 a2 a3 a4 a5 a6 a7 a8 a9 a10 : Nat → Int32} (h1 : mr_non a1) (h8 : ∀ j, j < 21 → a8 (21 * j) = 1)
    (H : ∀ (g r : Int32) (b6 b7 : Nat → Int32), b6 0 = 1 → post (w, cov, g, r, cel, mn, dm, df, cl, a1, a2, a3, a4, a5, b6, b7, a8, a9, a10)) : wpX_countAll post (w, cov, gc, rst, cel, mn, dm, df, cl, a1, a2, a3, a4, a5, a6, a7, a8, a9, a10) (-1) := by
  unfold wpX_countAll
  exact mr_grp_non h1 (mr_ca6 (fun j hj => Or.inl (h1 j hj)) (fun b6 e6 => Exists.intro 1 (pk_le 0 0 (fun _ => br_t rfl (mr_ca117 h8 (fun d6 d7 k6 => H _ _ _ _ (k6.trans e6)))) (fun z => absurd z (by omega)))))
-- withMines(0) behind countAll
def mr_wr (w v : Int32) : Int32 := if w = (-1) then v else if w = 0 then v else 0
theorem mr_wm2 {post : Int32 → St2 → Prop} {w cov gc rst cel mn dm df cl : Int32} {a1 a2 a3 a4 a5 a6 a7 a8 a9 a10 : Nat → Int32} (H : post (mr_wr w (a6 0)) (w, cov, gc, rst, cel, mn, dm, df, cl, a1, a2, a3, a4, a5, a6, a7, a8, a9, a10)) :
    ((0 : Int32) < 0 → wX_withMines_31 post 0 w cov gc rst cel mn dm df cl a1 a2 a3 a4 a5 a6 a7 a8 a9 a10) ∧ (¬ (0 : Int32) < 0 → ((21 : Int32) ≤ 0 → wX_withMines_31 post 0 w cov gc rst cel mn dm df cl a1 a2 a3 a4 a5 a6 a7 a8 a9 a10) ∧ (¬ (21 : Int32) ≤ 0 → (w = (-1) → wX_withMines_35 post 0 w cov gc rst cel mn dm df cl a1 a2 a3 a4 a5 a6 a7 a8 a9 a10) ∧ (¬ w = (-1) → (w = 0 → wX_withMines_35 post 0 w cov gc rst cel mn dm df cl a1 a2 a3 a4 a5 a6 a7 a8 a9 a10) ∧ (¬ w = 0 → wX_withMines_31 post 0 w cov gc rst cel mn dm df cl a1 a2 a3 a4 a5 a6 a7 a8 a9 a10)))) := by
  refine br_f (by decide) (br_f (by decide) ?_)
  unfold mr_wr at H
  by_cases e1 : w = (-1)
  · rw [if_pos e1] at H
    exact br_t e1 (br_t rfl ⟨pk_in 0 21 (by omega), H⟩)
  · rw [if_neg e1] at H
    refine br_f e1 ?_
    by_cases e2 : w = 0
    · rw [if_pos e2] at H
      exact br_t e2 (br_t rfl ⟨pk_in 0 21 (by omega), H⟩)
    · rw [if_neg e2] at H
      exact br_f e2 (br_f (by decide) H)
theorem mr_wm {post : Int32 → St2 → Prop} {w cov gc rst cel mn dm df cl : Int32} {a1 a2 a3 a4 a5 a6 a7 a8 a9 a10 : Nat → Int32} {c k : Nat} (h1 : mr_one a1 c k) (hN : a2 c = mr_N c) (hC : cov = mr_C c) (h8 : ∀ j, j < 21 → a8 (21 * j) = 1)
    (H : ∀ (g r K m : Int32) (b3 b4 b5 b6 b7 b9 b10 : Nat → Int32), post (mr_wr w (if k = 0 then 1 else 0)) (w, cov, g, r, K, m, dm, df, cl, a1, a2, b3, b4, b5, b6, b7, a8, b9, b10)) : wpX_withMines post (w, cov, gc, rst, cel, mn, dm, df, cl, a1, a2, a3, a4, a5, a6, a7, a8, a9, a10) 0 := by
  unfold wpX_withMines
  refine mr_count h1 hN hC h8 (fun g r K m b3 b4 b5 b6 b7 b9 b10 e => mr_wm2 ?_)
  rw [e]
  exact H g r K m b3 b4 b5 b6 b7 b9 b10
theorem mr_wm_non {post : Int32 → St2 → Prop} {w cov gc rst cel mn dm df cl : Int32} {a1 a2 a3 a4 a5 a6 a7 a8 a9 a10 : Nat → Int32} (h1 : mr_non a1) (h8 : ∀ j, j < 21 → a8 (21 * j) = 1)
    (H : ∀ (g r K m : Int32) (b3 b4 b5 b6 b7 b9 b10 : Nat → Int32), post (mr_wr w 1) (w, cov, g, r, K, m, dm, df, cl, a1, a2, b3, b4, b5, b6, b7, a8, b9, b10)) : wpX_withMines post (w, cov, gc, rst, cel, mn, dm, df, cl, a1, a2, a3, a4, a5, a6, a7, a8, a9, a10) 0 := by
  unfold wpX_withMines
  refine mr_count_non h1 h8 (fun g r b6 b7 e => mr_wm2 ?_)
  rw [e]
  exact H g r cel mn a3 a4 a5 b6 b7 a9 a10
end
section
def mr_op (n cov dm df : Int32) : Int32 := ((n &&& cov) &&& (dm ^^^ (-1))) &&& (df ^^^ (-1))
theorem mr_around {post : Int32 → Prop} {w cov gc rst cel mn dm df cl : Int32} {a1 a2 a3 a4 a5 a6 a7 a8 a9 a10 : Nat → Int32} {c : Nat} (hc : c < 20) (H : post (mr_op (a2 c) cov dm df)) : wpX_openAround post (w, cov, gc, rst, cel, mn, dm, df, cl, a1, a2, a3, a4, a5, a6, a7, a8, a9, a10) (nI c) := by
  unfold wpX_openAround
  rw [nI_clamp (show c < 2 ^ 31 by omega)]
  exact ⟨pk_in c 20 hc, H⟩
theorem mr_left {post : Int32 → Prop} {w cov gc rst cel mn dm df cl : Int32} {a1 a2 a3 a4 a5 a6 a7 a8 a9 a10 : Nat → Int32} {c k : Nat} (h1 : mr_one a1 c k) (hp : mr_pc 20 ((a2 c) &&& dm) ≤ k) (H : post (nI (k - mr_pc 20 ((a2 c) &&& dm)))) : wpX_leftOf post (w, cov, gc, rst, cel, mn, dm, df, cl, a1, a2, a3, a4, a5, a6, a7, a8, a9, a10) (nI c) := by
  have hc := h1.1
  unfold wpX_leftOf
  rw [nI_clamp (show c < 2 ^ 31 by omega)]
  refine ⟨pk_in c 20 hc, pk_in c 20 hc, mr_bits _ _ ?_⟩
  rw [h1.2.2.1, pk_sub hp]
  exact H
theorem mr_check {post : St2 → Prop} {w cov gc rst cel mn dm df : Int32} {a1 a2 a3 a4 a5 a6 a7 a8 a9 a10 : Nat → Int32} {c k : Nat} (h1 : mr_one a1 c k) (hp : mr_pc 20 ((a2 c) &&& dm) ≤ k)
    (H : post (w, cov, gc, rst, cel, mn, dm, df, if k - mr_pc 20 ((a2 c) &&& dm) ≤ mr_pc 20 (mr_op (a2 c) cov dm df) then 0 else 1, a1, a2, a3, a4, a5, a6, a7, a8, a9, a10)) : wpX_checkClues post (w, cov, gc, rst, cel, mn, dm, df, 0, a1, a2, a3, a4, a5, a6, a7, a8, a9, a10) := by
  have hc := h1.1
  have hk := h1.2.1
  have ho := mr_pc_le 20 (mr_op (a2 c) cov dm df)
  refine pk_loop (fun n i s => wX_checkClues_2 post w cov gc rst cel mn dm df a1 a2 a3 a4 a5 a6 a7 a8 a9 a10 n (nI i) s) (fun i s => s = if i ≤ c then 0 else if k - mr_pc 20 ((a2 c) &&& dm) ≤ mr_pc 20 (mr_op (a2 c) cov dm df) then 0 else 1) 20 0 0 (by omega) (if_pos (Nat.zero_le c)).symm
    (fun n s h => pk_le 20 20 (fun _ => ek_v (P := fun v => post (w, cov, gc, rst, cel, mn, dm, df, v, a1, a2, a3, a4, a5, a6, a7, a8, a9, a10)) (Eq.trans h (if_neg (by omega))) H) (fun z => absurd z (by omega)))
    (fun n i s hi h hw => pk_le 20 i (fun z => absurd z (by omega)) (fun _ => ⟨pk_in i 20 hi, ?_⟩))
  rw [nI_clamp (show i < 2 ^ 31 by omega)]
  by_cases e : i = c
  · subst e
    have h' : s = 0 := Eq.trans h (if_pos (Nat.le_refl i))
    subst h'
    refine br_f (mr_one_n h1) (mr_left h1 hp (br_t rfl (br_f (nI_pos (by omega)) (mr_around hc (mr_bits _ _ ?_)))))
    refine pk_le (k - mr_pc 20 ((a2 i) &&& dm)) (mr_pc 20 (mr_op (a2 i) cov dm df)) (fun e => nm_r (nI_1 i) (hw _ ?_)) (fun e => nm_r (nI_1 i) (hw _ ?_))
    · rw [if_neg (by omega), if_pos e]
    · rw [if_neg (by omega), if_neg (by omega)]
  · refine br_t (h1.2.2.2 i hi e) (nm_r (nI_1 i) (hw _ (Eq.trans h ?_)))
    by_cases e3 : i ≤ c
    · rw [if_pos e3, if_pos (show i + 1 ≤ c by omega)]
    · rw [if_neg e3, if_neg (show ¬ i + 1 ≤ c by omega)]
theorem mr_check_non {post : St2 → Prop} {w cov gc rst cel mn dm df cl : Int32} {a1 a2 a3 a4 a5 a6 a7 a8 a9 a10 : Nat → Int32} (h1 : mr_non a1) (H : post (w, cov, gc, rst, cel, mn, dm, df, cl, a1, a2, a3, a4, a5, a6, a7, a8, a9, a10)) : wpX_checkClues post (w, cov, gc, rst, cel, mn, dm, df, cl, a1, a2, a3, a4, a5, a6, a7, a8, a9, a10) := by
  refine pk_loop (σ := Unit) (fun n i _ => wX_checkClues_2 post w cov gc rst cel mn dm df a1 a2 a3 a4 a5 a6 a7 a8 a9 a10 n (nI i) cl) (fun _ _ => True) 20 0 () (by omega) trivial
    (fun n _ _ => pk_le 20 20 (fun _ => H) (fun z => absurd z (by omega)))
    (fun n i _ hi _ hw => pk_le 20 i (fun z => absurd z (by omega)) (fun _ => ⟨pk_in i 20 hi, ?_⟩))
  rw [nI_clamp (show i < 2 ^ 31 by omega)]
  exact br_t (h1 i hi) (nm_r (nI_1 i) (hw () trivial))
-- decideBy: no cell; none mined; all mined; neither
theorem mr_dec0 {post : Int32 → St2 → Prop} {w cov gc rst cel mn dm df cl : Int32} {a1 a2 a3 a4 a5 a6 a7 a8 a9 a10 : Nat → Int32} {x y : Int32} (hx : x = 0) (H : post 0 (w, cov, gc, rst, cel, mn, dm, df, cl, a1, a2, a3, a4, a5, a6, a7, a8, a9, a10)) : wpX_decideBy post (w, cov, gc, rst, cel, mn, dm, df, cl, a1, a2, a3, a4, a5, a6, a7, a8, a9, a10) x y :=
  br_t hx (br_t hx (br_t rfl (br_t rfl (br_t rfl (br_t rfl H)))))
theorem mr_decN {post : Int32 → St2 → Prop} {w cov gc rst cel mn dm df cl : Int32} {a1 a2 a3 a4 a5 a6 a7 a8 a9 a10 : Nat → Int32} {x y : Int32} (hx : ¬ x = 0) (hy : y = 0) (H : post 1 (w, cov, gc, rst, cel, mn, dm, df ||| x, cl, a1, a2, a3, a4, a5, a6, a7, a8, a9, a10)) : wpX_decideBy post (w, cov, gc, rst, cel, mn, dm, df, cl, a1, a2, a3, a4, a5, a6, a7, a8, a9, a10) x y := by
  have hp := mr_pc_pos hx
  have hl := mr_pc_le 20 x
  refine br_f hx (br_t hy (br_f hx (mr_bits _ _ (br_f ?_ (br_f (by decide) (br_t rfl (br_f (by decide) H)))))))
  rw [hy]
  exact fun z => nI_ne0 (n := mr_pc 20 x) (by omega) (by omega) z.symm
theorem mr_decA {post : Int32 → St2 → Prop} {w cov gc rst cel mn dm df cl : Int32} {a1 a2 a3 a4 a5 a6 a7 a8 a9 a10 : Nat → Int32} {x y : Int32} (hx : ¬ x = 0) (hy : ¬ y = 0) (he : y = nI (mr_pc 20 x)) (H : post 1 (w, cov, gc, rst, cel, mn, dm ||| x, df, cl, a1, a2, a3, a4, a5, a6, a7, a8, a9, a10)) : wpX_decideBy post (w, cov, gc, rst, cel, mn, dm, df, cl, a1, a2, a3, a4, a5, a6, a7, a8, a9, a10) x y :=
  br_f hx (br_f hy (br_f hx (mr_bits _ _ (br_t he (br_t rfl (br_f (by decide) (br_t rfl (br_f (by decide) H))))))))
theorem mr_decU {post : Int32 → St2 → Prop} {w cov gc rst cel mn dm df cl : Int32} {a1 a2 a3 a4 a5 a6 a7 a8 a9 a10 : Nat → Int32} {x y : Int32} (hx : ¬ x = 0) (hy : ¬ y = 0) (he : ¬ y = nI (mr_pc 20 x)) (H : post 0 (w, cov, gc, rst, cel, mn, dm, df, cl, a1, a2, a3, a4, a5, a6, a7, a8, a9, a10)) : wpX_decideBy post (w, cov, gc, rst, cel, mn, dm, df, cl, a1, a2, a3, a4, a5, a6, a7, a8, a9, a10) x y :=
  br_f hx (br_f hy (br_f hx (mr_bits _ _ (br_f he (br_t rfl (br_t rfl (br_t rfl (br_t rfl H))))))))
theorem mr_r1 {post : Int32 → St2 → Prop} {w cov gc rst cel mn dm df : Int32} {a1 a2 a3 a4 a5 a6 a7 a8 a9 a10 : Nat → Int32} {c k : Nat} (h1 : mr_one a1 c k) (hp : mr_pc 20 ((a2 c) &&& dm) ≤ k) {r D F : Int32} (hr : r = 0 ∨ r = 1)
    (hd : ∀ ψ : Int32 → St2 → Prop, ψ r (w, cov, gc, rst, cel, mn, D, F, 0, a1, a2, a3, a4, a5, a6, a7, a8, a9, a10) → wpX_decideBy ψ (w, cov, gc, rst, cel, mn, dm, df, 0, a1, a2, a3, a4, a5, a6, a7, a8, a9, a10) (mr_op (a2 c) cov dm df) (nI (k - mr_pc 20 ((a2 c) &&& dm))))
    (hp2 : mr_pc 20 ((a2 c) &&& D) ≤ k) (hk2 : k - mr_pc 20 ((a2 c) &&& D) ≤ mr_pc 20 (mr_op (a2 c) cov D F)) (H : post r (w, cov, gc, rst, cel, mn, D, F, 0, a1, a2, a3, a4, a5, a6, a7, a8, a9, a10)) : wpX_ruleOne post (w, cov, gc, rst, cel, mn, dm, df, 0, a1, a2, a3, a4, a5, a6, a7, a8, a9, a10) := by
  have hc := h1.1
  have hn : narrow .boolean (.int r) = .int r := by
    rcases hr with e | e
    · rw [e]; exact mr_nar0
    · rw [e]; exact mr_nar1
  refine pk_loop (σ := Int32 × Int32 × Int32) (fun n i s => wX_ruleOne_4 post n s.1 (nI i) w cov gc rst cel mn s.2.1 s.2.2 0 a1 a2 a3 a4 a5 a6 a7 a8 a9 a10) (fun i s => (i ≤ c → s = (0, dm, df)) ∧ (c < i → s = (r, D, F))) 20 0 (0, dm, df) (by omega) ⟨fun _ => rfl, fun z => absurd z (by omega)⟩
    (fun n s h => ?_) (fun n i s hi h hw => ?_)
  · have e := h.2 hc
    subst e
    exact pk_le 20 20 (fun _ => ⟨hn, H⟩) (fun z => absurd z (by omega))
  · by_cases e : i = c
    · subst e
      have e2 := h.1 (Nat.le_refl i)
      subst e2
      refine pk_le 20 i (fun z => absurd z (by omega)) (fun _ => br_t rfl ⟨pk_in i 20 hi, ?_⟩)
      rw [nI_clamp (show i < 2 ^ 31 by omega)]
      refine br_f (mr_one_n h1) (mr_around hc (mr_left h1 hp (hd _ (br_t rfl ?_))))
      have key : wX_ruleOne_55 post (wX_ruleOne_4 post n) (nI i) r w cov gc rst cel mn D F 0 a1 a2 a3 a4 a5 a6 a7 a8 a9 a10 := by
        unfold wX_ruleOne_55
        refine mr_check h1 hp2 (nm_r (nI_1 i) ?_)
        rw [if_pos hk2]
        exact hw (r, D, F) ⟨fun z => absurd z (by omega), fun _ => rfl⟩
      rcases hr with e3 | e3
      · subst e3
        exact br_t rfl key
      · subst e3
        exact br_f (by decide) key
    · refine pk_le 20 i (fun z => absurd z (by omega)) (fun _ => br_t rfl ⟨pk_in i 20 hi, ?_⟩)
      rw [nI_clamp (show i < 2 ^ 31 by omega)]
      exact br_t (h1.2.2.2 i hi e) (nm_r (nI_1 i) (hw s ⟨fun z => h.1 (by omega), fun z => h.2 (by omega)⟩))
theorem mr_r1_non {post : Int32 → St2 → Prop} {w cov gc rst cel mn dm df : Int32} {a1 a2 a3 a4 a5 a6 a7 a8 a9 a10 : Nat → Int32} (h1 : mr_non a1) (H : post 0 (w, cov, gc, rst, cel, mn, dm, df, 0, a1, a2, a3, a4, a5, a6, a7, a8, a9, a10)) : wpX_ruleOne post (w, cov, gc, rst, cel, mn, dm, df, 0, a1, a2, a3, a4, a5, a6, a7, a8, a9, a10) := by
  refine pk_loop (σ := Unit) (fun n i _ => wX_ruleOne_4 post n 0 (nI i) w cov gc rst cel mn dm df 0 a1 a2 a3 a4 a5 a6 a7 a8 a9 a10) (fun _ _ => True) 20 0 () (by omega) trivial
    (fun n _ _ => pk_le 20 20 (fun _ => ⟨mr_nar0, H⟩) (fun z => absurd z (by omega)))
    (fun n i _ hi _ hw => pk_le 20 i (fun z => absurd z (by omega)) (fun _ => br_t rfl ⟨pk_in i 20 hi, ?_⟩))
  rw [nI_clamp (show i < 2 ^ 31 by omega)]
  exact br_t (h1 i hi) (nm_r (nI_1 i) (hw () trivial))
end
section
theorem mr_op0 {n cov N : Int32} (h : n &&& cov = N) : mr_op n cov 0 0 = N := by
  unfold mr_op
  rw [h, mr_z1, mr_z1]
theorem mr_opF {n cov N : Int32} (h : n &&& cov = N) (h2 : N &&& (N ^^^ (-1)) = 0) : mr_op n cov 0 N = 0 := by
  unfold mr_op
  rw [h, mr_z1, h2]
theorem mr_opD {n cov N : Int32} (h : n &&& cov = N) (h2 : N &&& (N ^^^ (-1)) = 0) : mr_op n cov N 0 = 0 := by
  unfold mr_op
  rw [h, h2, Int32.zero_and]
theorem mr_apply {post : St2 → Prop} {w cov gc rst cel mn dm df cl : Int32} {a1 a2 a3 a4 a5 a6 a7 a8 a9 a10 : Nat → Int32} {c k : Nat} (h1 : mr_one a1 c k) (hN : a2 c = mr_N c) (hC : cov = mr_C c)
    (H1 : mr_pc 20 (mr_N c) < k → post (w, cov, gc, rst, cel, mn, 0, 0, 1, a1, a2, a3, a4, a5, a6, a7, a8, a9, a10)) (H2 : k = 0 → post (w, cov, gc, rst, cel, mn, 0, mr_N c, 0, a1, a2, a3, a4, a5, a6, a7, a8, a9, a10))
    (H3 : ¬ k = 0 → k = mr_pc 20 (mr_N c) → post (w, cov, gc, rst, cel, mn, mr_N c, 0, 0, a1, a2, a3, a4, a5, a6, a7, a8, a9, a10)) (H4 : ¬ k = 0 → k < mr_pc 20 (mr_N c) → post (w, cov, gc, rst, cel, mn, 0, 0, 0, a1, a2, a3, a4, a5, a6, a7, a8, a9, a10)) : wpX_applyRules post (w, cov, gc, rst, cel, mn, dm, df, cl, a1, a2, a3, a4, a5, a6, a7, a8, a9, a10) 0 := by
  have hc := h1.1
  have hk := h1.2.1
  have hf1 := mr_f1 c hc
  have hM : (a2 c) &&& cov = mr_N c := by rw [hN, hC]; exact mr_f2 c hc
  have eo := mr_op0 hM
  have eF := mr_opF hM (mr_f5 c hc)
  have eD := mr_opD hM (mr_f5 c hc)
  have e0 : mr_pc 20 ((a2 c) &&& 0) = 0 := by rw [Int32.and_zero, mr_pc_0]
  have eN : mr_pc 20 ((a2 c) &&& mr_N c) = mr_pc 20 (mr_N c) := by rw [hN, Int32.and_self]
  have hpl := mr_pc_le 20 (mr_N c)
  have hp0 : mr_pc 20 ((a2 c) &&& 0) ≤ k := by omega
  unfold wpX_applyRules
  refine mr_check h1 hp0 ?_
  rw [eo, e0]
  rcases Nat.lt_or_ge (mr_pc 20 (mr_N c)) k with hlt | hge
  · rw [if_neg (by omega)]
    exact Exists.intro 1 (pk_le 22 0 (fun z => absurd z (by omega)) (fun _ => br_f (by decide) (br_f (by decide) (H1 hlt))))
  rw [if_pos (by omega)]
  by_cases hk0 : k = 0
  · have hpp := mr_pc_pos hf1
    have h0 := H2 hk0
    refine Exists.intro 3 (pk_le 22 0 (fun z => absurd z (by omega)) (fun _ => br_f (by decide) (br_t rfl (mr_r1 h1 hp0 (r := 1) (D := 0) (F := mr_N c) (Or.inr rfl) (fun ψ hψ => ?_) hp0 ?_ (br_t rfl (nm_e (pk_le 22 1 (fun z => absurd z (by omega)) (fun _ => br_f (by decide) (br_t rfl (mr_r1 h1 hp0 (r := 0) (D := 0) (F := mr_N c) (Or.inl rfl) (fun ψ hψ => mr_dec0 eF hψ) hp0 ?_ (br_t rfl (nm_e (pk_le 22 2 (fun z => absurd z (by omega)) (fun _ => br_t rfl h0))))))))))))))
    · rw [eo, e0]
      refine mr_decN hf1 (by rw [hk0]; rfl) ?_
      rw [Int32.zero_or]
      exact hψ
    · omega
    · omega
  · by_cases hkp : k = mr_pc 20 (mr_N c)
    · have h0 := H3 hk0 hkp
      have hpN : mr_pc 20 ((a2 c) &&& mr_N c) ≤ k := by omega
      refine Exists.intro 3 (pk_le 22 0 (fun z => absurd z (by omega)) (fun _ => br_f (by decide) (br_t rfl (mr_r1 h1 hp0 (r := 1) (D := mr_N c) (F := 0) (Or.inr rfl) (fun ψ hψ => ?_) hpN ?_ (br_t rfl (nm_e (pk_le 22 1 (fun z => absurd z (by omega)) (fun _ => br_f (by decide) (br_t rfl (mr_r1 h1 hpN (r := 0) (D := mr_N c) (F := 0) (Or.inl rfl) (fun ψ hψ => mr_dec0 eD hψ) hpN ?_ (br_t rfl (nm_e (pk_le 22 2 (fun z => absurd z (by omega)) (fun _ => br_t rfl h0))))))))))))))
      · rw [eo, e0]
        refine mr_decA hf1 (nI_ne0 (by omega) (by omega)) (by rw [← hkp]; rfl) ?_
        rw [Int32.zero_or]
        exact hψ
      · omega
      · omega
    · have h0 := H4 hk0 (by omega)
      refine Exists.intro 2 (pk_le 22 0 (fun z => absurd z (by omega)) (fun _ => br_f (by decide) (br_t rfl (mr_r1 h1 hp0 (r := 0) (D := 0) (F := 0) (Or.inl rfl) (fun ψ hψ => ?_) hp0 ?_ (br_t rfl (nm_e (pk_le 22 1 (fun z => absurd z (by omega)) (fun _ => br_t rfl h0))))))))
      · rw [eo, e0]
        refine mr_decU hf1 (nI_ne0 (by omega) (by omega)) ?_ hψ
        intro z
        rw [nI_eq (by omega) (by omega)] at z
        omega
      · rw [eo]
        omega
theorem mr_apply_non {post : St2 → Prop} {w cov gc rst cel mn dm df cl : Int32} {a1 a2 a3 a4 a5 a6 a7 a8 a9 a10 : Nat → Int32} (h1 : mr_non a1) (H : post (w, cov, gc, rst, cel, mn, 0, 0, 0, a1, a2, a3, a4, a5, a6, a7, a8, a9, a10)) : wpX_applyRules post (w, cov, gc, rst, cel, mn, dm, df, cl, a1, a2, a3, a4, a5, a6, a7, a8, a9, a10) 0 := by
  unfold wpX_applyRules
  refine mr_check_non h1 ?_
  exact Exists.intro 2 (pk_le 22 0 (fun z => absurd z (by omega)) (fun _ => br_f (by decide) (br_t rfl (mr_r1_non h1 (br_t rfl (nm_e (pk_le 22 1 (fun z => absurd z (by omega)) (fun _ => br_t rfl H))))))))
theorem mr_dcnt {post : Int32 → Prop} {w cov gc rst cel mn dm df : Int32} {a1 a2 a3 a4 a5 a6 a7 a8 a9 a10 : Nat → Int32} (H : post (nI (mr_pc 20 (dm ||| df)))) : wpX_decidedCount post (w, cov, gc, rst, cel, mn, dm, df, 0, a1, a2, a3, a4, a5, a6, a7, a8, a9, a10) := by
  unfold wpX_decidedCount
  exact br_t rfl (mr_bits _ _ H)
theorem mr_dcnt1 {post : Int32 → Prop} {w cov gc rst cel mn dm df : Int32} {a1 a2 a3 a4 a5 a6 a7 a8 a9 a10 : Nat → Int32} (H : post (-3)) : wpX_decidedCount post (w, cov, gc, rst, cel, mn, dm, df, 1, a1, a2, a3, a4, a5, a6, a7, a8, a9, a10) := by
  unfold wpX_decidedCount
  exact br_f (by decide) H
def mr_sr (k p : Nat) : Int32 := if p < k then (-3) else if k = 0 ∨ k = p then nI p else 0
theorem mr_simple {post : Int32 → St2 → Prop} {w cov gc rst cel mn dm df cl : Int32} {a1 a2 a3 a4 a5 a6 a7 a8 a9 a10 : Nat → Int32} {c k : Nat} (h1 : mr_one a1 c k) (hN : a2 c = mr_N c) (hC : cov = mr_C c)
    (H : ∀ D F x : Int32, post (mr_sr k (mr_pc 20 (mr_N c))) (w, cov, gc, rst, cel, mn, D, F, x, a1, a2, a3, a4, a5, a6, a7, a8, a9, a10)) : wpX_simple post (w, cov, gc, rst, cel, mn, dm, df, cl, a1, a2, a3, a4, a5, a6, a7, a8, a9, a10) := by
  have hp := mr_pc_pos (mr_f1 c h1.1)
  unfold mr_sr at H
  unfold wpX_simple
  refine mr_apply h1 hN hC (fun e => mr_dcnt1 ?_) (fun e => mr_dcnt ?_) (fun e e2 => mr_dcnt ?_) (fun e e2 => mr_dcnt ?_)
  · have := H 0 0 1
    rw [if_pos e] at this
    exact this
  · have := H 0 (mr_N c) 0
    rw [if_neg (by omega), if_pos (Or.inl e)] at this
    rw [Int32.zero_or]
    exact this
  · have := H (mr_N c) 0 0
    rw [if_neg (by omega), if_pos (Or.inr e2)] at this
    rw [Int32.or_zero]
    exact this
  · have := H 0 0 0
    rw [if_neg (by omega), if_neg (by omega)] at this
    rw [Int32.or_zero, mr_pc_0]
    exact this
theorem mr_simple_non {post : Int32 → St2 → Prop} {w cov gc rst cel mn dm df cl : Int32} {a1 a2 a3 a4 a5 a6 a7 a8 a9 a10 : Nat → Int32} (h1 : mr_non a1) (H : ∀ D F x : Int32, post 0 (w, cov, gc, rst, cel, mn, D, F, x, a1, a2, a3, a4, a5, a6, a7, a8, a9, a10)) : wpX_simple post (w, cov, gc, rst, cel, mn, dm, df, cl, a1, a2, a3, a4, a5, a6, a7, a8, a9, a10) := by
  unfold wpX_simple
  refine mr_apply_non h1 (mr_dcnt ?_)
  rw [Int32.or_zero, mr_pc_0]
  exact H 0 0 0
end
section
theorem mr_in150 {post : St2 → Prop} {mc ms kc ks : Nat} {w cov gc rst cel mn dm df cl : Int32} {a1 a2 a3 a4 a5 a6 a7 a8 a9 a10 : Nat → Int32} {J : Int32 → (Nat → Int32) → (Nat → Int32) → (Nat → Int32) → (Nat → Int32) → (Nat → Int32) → (Nat → Int32) → (Nat → Int32) → (Nat → Int32) → (Nat → Int32) → (Nat → Int32) → Prop} {i : Nat} (hi : i < 21) (h8 : ∀ j, j < i + 1 → a8 (21 * j) = 1)
    (H : ∀ b8 : Nat → Int32, (∀ j, j < i + 1 → b8 (21 * j) = 1) → J (nI (i + 1)) a1 a2 a3 a4 a5 a6 a7 b8 a9 a10) : ∃ n, wX_init_150 post mc ms J (nI i) kc ks w cov gc rst cel mn dm df cl n 1 a1 a2 a3 a4 a5 a6 a7 a8 a9 a10 := by
  refine pk_loop (fun n m s => wX_init_150 post mc ms J (nI i) kc ks w cov gc rst cel mn dm df cl n (nI m) a1 a2 a3 a4 a5 a6 a7 s a9 a10) (fun m s => 1 ≤ m ∧ ∀ j, j < i + 1 → s (21 * j) = 1) (i + 1) 1 a8 (by omega) ⟨Nat.le_refl 1, h8⟩
    (fun n s h => pk_lt i (i + 1) (fun _ => nm_r (nI_1 i) (H s h.2)) (fun z => absurd z (by omega)))
    (fun n m s hm h hw => pk_lt i m (fun z => absurd z (by omega)) (fun _ => ?_))
  obtain ⟨g1, g2⟩ := h
  obtain ⟨m', rfl⟩ : ∃ m', m = m' + 1 := ⟨m - 1, by omega⟩
  obtain ⟨i', rfl⟩ : ∃ i', i = i' + 1 := ⟨i - 1, by omega⟩
  rw [nI_pred i', show (21 : Int32) * nI i' = nI (21 * i') from pk_mul 21 i', show (21 : Int32) * nI (i' + 1) = nI (21 * (i' + 1)) from pk_mul 21 (i' + 1), nI_add, nI_add, show nI (21 * i' + (m' + 1)) - 1 = nI (21 * i' + m') from nI_pred (21 * i' + m')]
  rw [nI_clamp (show 21 * (i' + 1) + (m' + 1) < 2 ^ 31 by omega)]
  refine ⟨pk_in (21 * i' + m') 441 (by omega), pk_in (21 * i' + (m' + 1)) 441 (by omega), pk_in (21 * (i' + 1) + (m' + 1)) 441 (by omega), nm_e (nm_r (nI_1 (m' + 1)) (hw _ ⟨by omega, fun j hj => ?_⟩))⟩
  rw [pk_un (by omega)]
  exact g2 j hj
theorem mr_in132 {post : St2 → Prop} {mc ms kc ks : Nat} {w cov gc rst cel mn dm df cl : Int32} {a1 a2 a3 a4 a5 a6 a7 a8 a9 a10 : Nat → Int32} (H : ∀ b8 : Nat → Int32, (∀ j, j < 21 → b8 (21 * j) = 1) → post (w, cov, gc, rst, cel, mn, dm, df, cl, a1, a2, a3, a4, a5, a6, a7, b8, a9, a10)) : ∃ n, wX_init_132 post mc ms kc ks w cov gc rst cel mn dm df cl n 0 a1 a2 a3 a4 a5 a6 a7 a8 a9 a10 := by
  refine pk_loop (fun n i s => wX_init_132 post mc ms kc ks w cov gc rst cel mn dm df cl n (nI i) a1 a2 a3 a4 a5 a6 a7 s a9 a10) (fun i s => ∀ j, j < i → s (21 * j) = 1) 21 0 a8 (by omega) (fun j hj => absurd hj (by omega))
    (fun n s h => pk_le 21 21 (fun _ => H s h) (fun z => absurd z (by omega)))
    (fun n i s hi h hw => pk_le 21 i (fun z => absurd z (by omega)) (fun _ => ?_))
  rw [show (21 : Int32) * nI i = nI (21 * i) from pk_mul 21 i, nI_clamp (show 21 * i < 2 ^ 31 by omega)]
  refine ⟨pk_in (21 * i) 441 (by omega), nm_e (mr_in150 hi (fun j hj => ?_) (fun b8 g => hw b8 g))⟩
  by_cases e : j = i
  · rw [e, pk_us]
  · rw [pk_un (by omega)]
    exact h j (by omega)
theorem mr_in100 {post : St2 → Prop} {mc ms kc ks : Nat} {w cov gc rst cel mn dm df cl : Int32} {a1 a2 a3 a4 a5 a6 a7 a8 a9 a10 : Nat → Int32} (H : ∀ b1 b2 b8 : Nat → Int32, mr_non b1 → (∀ j, j < 20 → b2 j = mr_N j) → (∀ j, j < 21 → b8 (21 * j) = 1) → post (w, cov, gc, rst, cel, mn, dm, df, cl, b1, b2, a3, a4, a5, a6, a7, b8, a9, a10)) : ∃ n, wX_init_100 post mc ms kc ks w cov gc rst cel mn dm df cl n 0 a1 a2 a3 a4 a5 a6 a7 a8 a9 a10 := by
  refine pk_loop (σ := (Nat → Int32) × (Nat → Int32)) (fun n i s => wX_init_100 post mc ms kc ks w cov gc rst cel mn dm df cl n (nI i) s.1 s.2 a3 a4 a5 a6 a7 a8 a9 a10) (fun i s => (∀ j, j < i → s.1 j = (-1)) ∧ (∀ j, j < i → s.2 j = mr_N j)) 20 0 (a1, a2) (by omega) ⟨fun j hj => absurd hj (by omega), fun j hj => absurd hj (by omega)⟩
    (fun n s h => pk_le 20 20 (fun _ => mr_in132 (fun b8 g => H s.1 s.2 b8 h.1 h.2 g)) (fun z => absurd z (by omega)))
    (fun n i s hi h hw => pk_le 20 i (fun z => absurd z (by omega)) (fun _ => ⟨pk_in i 20 hi, ?_⟩))
  rw [nI_clamp (show i < 2 ^ 31 by omega)]
  refine nm_e (mr_nei _ _ ⟨pk_in i 20 hi, nm_e (nm_r (nI_1 i) (hw (upd s.1 i (-1), upd s.2 i (mr_nb (nI i) 20)) ⟨lt_s (fun j hj => ?_) ?_, lt_s (fun j hj => ?_) ?_⟩))⟩)
  · show upd s.1 i (-1) j = (-1)
    rw [pk_un (by omega)]
    exact h.1 j hj
  · exact pk_us
  · show upd s.2 i (mr_nb (nI i) 20) j = mr_N j
    rw [pk_un (by omega)]
    exact h.2 j hj
  · exact pk_us
theorem mr_init {post : St2 → Prop} {mc ms : Nat} {w cov gc rst cel mn dm df cl : Int32} (hmc : 10 ≤ mc) (hms : 1424 ≤ ms)
    (H : ∀ b1 b2 b8 : Nat → Int32, mr_non b1 → (∀ j, j < 20 → b2 j = mr_N j) → (∀ j, j < 21 → b8 (21 * j) = 1) → post (-1, 1048575, gc, rst, cel, mn, dm, df, cl, b1, b2, (fun _ => 0), (fun _ => 0), (fun _ => 0), (fun _ => 0), (fun _ => 0), b8, (fun _ => 0), (fun _ => 0))) :
    wpX_init post mc ms (w, cov, gc, rst, cel, mn, dm, df, cl) := by
  unfold wpX_init
  exact ⟨by omega, by omega, by omega, by omega, by omega, by omega, by omega, by omega, by omega, by omega, by omega, by omega, by omega, by omega, by omega, by omega, by omega, by omega, by omega, by omega, mr_in100 H⟩
end
section
def mr_E (x0 x1 x2 x12 x13 : Int32) : Int32 := if x12 = 0 then (-1) else if x13 = 0 then (-2) else if x0 = x2 then x1 else (-2)
def mr_S (x1 x13 x20 : Int32) : Int32 := if x13 = 0 then 0 else if x1 ≤ x20 then (if x1 = 0 then x20 else if x1 = x20 then x20 else 0) else (-3)
theorem mr_l316 {post : Int32 → St0 → Prop} {mc ms kc ks : Nat} {x0 x1 x2 x10 x12 x13 z0 z1 : Int32} (hz : z1 = z0) (h10 : x10 = mr_E x0 x1 x2 x12 x13) (H : post 1 ()) : wL_lawOf_316 post mc ms x0 x1 x2 x10 x12 x13 z0 z1 kc ks := by
  unfold mr_E at h10
  refine br_t hz ?_
  by_cases e1 : x12 = 0
  · rw [if_pos e1] at h10
    exact br_t e1 (br_t h10 H)
  rw [if_neg e1] at h10
  refine br_f e1 ?_
  by_cases e2 : x13 = 0
  · rw [if_pos e2] at h10
    exact br_t e2 (br_t h10 H)
  rw [if_neg e2] at h10
  refine br_f e2 ?_
  by_cases e3 : x0 = x2
  · rw [if_pos e3] at h10
    exact br_t e3 (br_t h10 H)
  · rw [if_neg e3] at h10
    exact br_f e3 (br_t h10 H)
theorem mr_l275 {post : Int32 → St0 → Prop} {mc ms kc ks : Nat} {x0 x1 x2 x9 x10 x12 x13 x20 z0 z1 : Int32} (hz : z1 = z0) (h9 : x9 = mr_S x1 x13 x20) (h10 : x10 = mr_E x0 x1 x2 x12 x13) (H : post 1 ()) : wL_lawOf_275 post mc ms x0 x1 x2 x9 x10 x12 x13 x20 z0 z1 kc ks := by
  unfold mr_S at h9
  refine br_t hz ?_
  by_cases e1 : x13 = 0
  · rw [if_pos e1] at h9
    exact br_t e1 (mr_l316 h9 h10 H)
  rw [if_neg e1] at h9
  refine br_f e1 ?_
  by_cases e2 : x1 ≤ x20
  · rw [if_pos e2] at h9
    refine br_t e2 ?_
    by_cases e3 : x1 = 0
    · rw [if_pos e3] at h9
      exact br_t e3 (mr_l316 h9 h10 H)
    · rw [if_neg e3] at h9
      refine br_f e3 ?_
      by_cases e4 : x1 = x20
      · rw [if_pos e4] at h9
        exact br_t e4 (mr_l316 h9 h10 H)
      · rw [if_neg e4] at h9
        exact br_f e4 (mr_l316 h9 h10 H)
  · rw [if_neg e2] at h9
    exact br_f e2 (mr_l316 h9 h10 H)
theorem mr_l260 {post : Int32 → St0 → Prop} {mc ms kc ks : Nat} {x0 x1 x2 x8 x9 x10 x12 x13 x15 x20 z0 z1 : Int32} (hz : z1 = z0) (h8 : x8 = if x15 = 0 then 0 else 1) (h9 : x9 = mr_S x1 x13 x20) (h10 : x10 = mr_E x0 x1 x2 x12 x13) (H : post 1 ()) : wL_lawOf_260 post mc ms x0 x1 x2 x8 x9 x10 x12 x13 x15 x20 z0 z1 kc ks := by
  refine br_t hz ?_
  by_cases e1 : x15 = 0
  · rw [if_pos e1] at h8
    exact br_t e1 (mr_l275 h8 h9 h10 H)
  · rw [if_neg e1] at h8
    exact br_f e1 (mr_l275 h8 h9 h10 H)
theorem mr_l224 {post : Int32 → St0 → Prop} {mc ms kc ks : Nat} {x0 x1 x2 x6 x7 x8 x9 x10 x12 x13 x15 x20 z0 z1 : Int32} (hz : z1 = z0) (h6 : x6 = (-1)) (h7 : x7 = mr_E x0 x1 x2 x12 x13) (h8 : x8 = if x15 = 0 then 0 else 1) (h9 : x9 = mr_S x1 x13 x20) (h10 : x10 = mr_E x0 x1 x2 x12 x13) (H : post 1 ()) : wL_lawOf_224 post mc ms x0 x1 x2 x6 x7 x8 x9 x10 x12 x13 x15 x20 z0 z1 kc ks := by
  refine br_t hz (br_t h6 ?_)
  have h7' := h7
  unfold mr_E at h7'
  by_cases e1 : x12 = 0
  · rw [if_pos e1] at h7'
    exact br_t e1 (mr_l260 h7' h8 h9 h10 H)
  rw [if_neg e1] at h7'
  refine br_f e1 ?_
  by_cases e2 : x13 = 0
  · rw [if_pos e2] at h7'
    exact br_t e2 (mr_l260 h7' h8 h9 h10 H)
  rw [if_neg e2] at h7'
  refine br_f e2 ?_
  by_cases e3 : x0 = x2
  · rw [if_pos e3] at h7'
    exact br_t e3 (mr_l260 h7' h8 h9 h10 H)
  · rw [if_neg e3] at h7'
    exact br_f e3 (mr_l260 h7' h8 h9 h10 H)
theorem mr_l200 {post : Int32 → St0 → Prop} {mc ms kc ks : Nat} {x0 x1 x2 x5 x6 x7 x8 x9 x10 x12 x13 x15 x18 z0 : Int32} (h5 : x5 = if x13 = 0 then (-1) else (-2)) (h6 : x6 = (-1)) (h7 : x7 = mr_E x0 x1 x2 x12 x13) (h8 : x8 = if x15 = 0 then 0 else 1) (h9 : x9 = mr_S x1 x13 ((x18 * z0) - 1)) (h10 : x10 = mr_E x0 x1 x2 x12 x13) (H : post 1 ()) : wL_lawOf_200 post mc ms x0 x1 x2 x5 x6 x7 x8 x9 x10 x12 x13 x15 x18 z0 kc ks := by
  unfold wL_lawOf_200
  refine nm_e ?_
  by_cases e1 : x13 = 0
  · have h5' := h5
    rw [if_pos e1] at h5'
    exact br_t e1 (mr_l224 h5' h6 h7 h8 h9 h10 H)
  · have h5' := h5
    rw [if_neg e1] at h5'
    exact br_f e1 (mr_l224 h5' h6 h7 h8 h9 h10 H)
theorem mr_l154 {post : Int32 → St0 → Prop} {mc ms kc ks : Nat} {x0 x1 x2 x5 x6 x7 x8 x9 x10 x12 x13 x15 : Int32} (h5 : x5 = if x13 = 0 then (-1) else (-2)) (h6 : x6 = (-1)) (h7 : x7 = mr_E x0 x1 x2 x12 x13) (h9 : x9 = mr_S x1 x13 ((mr_rows x0 * mr_cols x0) - 1)) (h10 : x10 = mr_E x0 x1 x2 x12 x13) (h8 : x8 = if x15 = 0 then 0 else 1) (H : post 1 ()) : wL_lawOf_154 post mc ms x0 x1 x2 x5 x6 x7 x8 x9 x10 x12 x13 x15 kc ks := by
  have key : ∀ r : Int32, r = mr_rows x0 → wL_lawOf_182 post mc ms x0 x1 x2 x5 x6 x7 x8 x9 x10 x12 x13 x15 (x0 - x0 / 5 * 5) r kc ks := by
    intro r hr
    rw [← hr] at h9
    unfold mr_cols at h9
    by_cases e1 : x0 - x0 / 5 * 5 = 0
    · rw [if_pos e1] at h9
      exact br_t e1 (mr_l200 h5 h6 h7 h8 h9 h10 H)
    · rw [if_neg e1] at h9
      refine br_f e1 ?_
      by_cases e2 : x0 - x0 / 5 * 5 = 4
      · rw [if_pos e2] at h9
        exact br_t e2 (mr_l200 h5 h6 h7 h8 h9 h10 H)
      · rw [if_neg e2] at h9
        exact br_f e2 (mr_l200 h5 h6 h7 h8 h9 h10 H)
  unfold mr_rows at key
  unfold wL_lawOf_154
  refine ⟨by decide, nm_e ⟨by decide, nm_e ?_⟩⟩
  by_cases e1 : x0 / 5 = 0
  · exact br_t e1 (key 2 (by rw [if_pos e1]))
  · refine br_f e1 ?_
    by_cases e2 : x0 / 5 = 3
    · exact br_t e2 (key 2 (by rw [if_neg e1, if_pos e2]))
    · exact br_f e2 (key 3 (by rw [if_neg e1, if_neg e2]))
theorem mr_l140 {post : Int32 → St0 → Prop} {mc ms kc ks : Nat} {x0 x1 x2 x3 x5 x6 x7 x8 x9 x10 x12 x13 x14 : Int32} (h5 : x5 = if x13 = 0 then (-1) else (-2)) (h6 : x6 = (-1)) (h7 : x7 = mr_E x0 x1 x2 x12 x13) (h9 : x9 = mr_S x1 x13 ((mr_rows x0 * mr_cols x0) - 1)) (h10 : x10 = mr_E x0 x1 x2 x12 x13) (h8 : x8 = if ¬ x14 = 0 ∧ 0 < x3 then 0 else 1) (H : post 1 ()) : wL_lawOf_140 post mc ms x0 x1 x2 x3 x5 x6 x7 x8 x9 x10 x12 x13 x14 kc ks := by
  by_cases e1 : x14 = 0
  · rw [if_neg (fun z => z.1 e1)] at h8
    exact br_t e1 (mr_l154 h5 h6 h7 h9 h10 h8 H)
  · refine br_f e1 ?_
    by_cases e2 : 0 < x3
    · rw [if_pos ⟨e1, e2⟩] at h8
      exact br_t e2 (mr_l154 h5 h6 h7 h9 h10 h8 H)
    · rw [if_neg (fun z => e2 z.2)] at h8
      exact br_f e2 (mr_l154 h5 h6 h7 h9 h10 h8 H)
theorem mr_l129 {post : Int32 → St0 → Prop} {mc ms kc ks : Nat} {x0 x1 x2 x3 x5 x6 x7 x8 x9 x10 x12 x13 x14 : Int32} (h5 : x5 = if x13 = 0 then (-1) else (-2)) (h6 : x6 = (-1)) (h7 : x7 = mr_E x0 x1 x2 x12 x13) (h9 : x9 = mr_S x1 x13 ((mr_rows x0 * mr_cols x0) - 1)) (h10 : x10 = mr_E x0 x1 x2 x12 x13) (h8 : x8 = if x13 = 0 ∨ x1 = 0 then (if ¬ x14 = 0 ∧ 0 < x3 then 0 else 1) else 0) (H : post 1 ()) : wL_lawOf_129 post mc ms x0 x1 x2 x3 x5 x6 x7 x8 x9 x10 x12 x13 x14 kc ks := by
  by_cases e1 : x13 = 0
  · rw [if_pos (Or.inl e1)] at h8
    exact br_t e1 (mr_l140 h5 h6 h7 h9 h10 h8 H)
  · refine br_f e1 ?_
    by_cases e2 : x1 = 0
    · rw [if_pos (Or.inr e2)] at h8
      exact br_t e2 (mr_l140 h5 h6 h7 h9 h10 h8 H)
    · rw [if_neg (fun z => z.elim e1 e2)] at h8
      exact br_f e2 (mr_l154 h5 h6 h7 h9 h10 h8 H)
def mr_X (x1 x3 x13 : Int32) : Int32 := if x13 = 0 ∨ x1 = 0 then (if (¬ x3 < (-1) ∧ ¬ 20 < x3) ∧ 0 < x3 then 0 else 1) else 0
theorem mr_l111 {post : Int32 → St0 → Prop} {mc ms kc ks : Nat} {x0 x1 x2 x3 x5 x6 x7 x8 x9 x10 x12 x13 : Int32} (h5 : x5 = if x13 = 0 then (-1) else (-2)) (h6 : x6 = (-1)) (h7 : x7 = mr_E x0 x1 x2 x12 x13) (h8 : x8 = mr_X x1 x3 x13) (h9 : x9 = mr_S x1 x13 ((mr_rows x0 * mr_cols x0) - 1)) (h10 : x10 = mr_E x0 x1 x2 x12 x13) (H : post 1 ()) : wL_lawOf_111 post mc ms x0 x1 x2 x3 x5 x6 x7 x8 x9 x10 x12 x13 kc ks := by
  unfold mr_X at h8
  by_cases e1 : x3 < (-1)
  · rw [if_neg (fun z : (¬ x3 < (-1) ∧ ¬ 20 < x3) ∧ 0 < x3 => z.1.1 e1)] at h8
    exact br_t e1 (mr_l129 h5 h6 h7 h9 h10 (by rw [if_neg (fun z : ¬ (0 : Int32) = 0 ∧ 0 < x3 => z.1 rfl)]; exact h8) H)
  · refine br_f e1 ?_
    by_cases e2 : 20 < x3
    · rw [if_neg (fun z : (¬ x3 < (-1) ∧ ¬ 20 < x3) ∧ 0 < x3 => z.1.2 e2)] at h8
      exact br_t e2 (mr_l129 h5 h6 h7 h9 h10 (by rw [if_neg (fun z : ¬ (0 : Int32) = 0 ∧ 0 < x3 => z.1 rfl)]; exact h8) H)
    · refine br_f e2 (mr_l129 h5 h6 h7 h9 h10 ?_ H)
      by_cases e3 : 0 < x3
      · rw [if_pos (show (¬ x3 < (-1) ∧ ¬ 20 < x3) ∧ 0 < x3 from ⟨⟨e1, e2⟩, e3⟩)] at h8
        rw [if_pos (show ¬ (1 : Int32) = 0 ∧ 0 < x3 from ⟨by decide, e3⟩)]
        exact h8
      · rw [if_neg (fun z : (¬ x3 < (-1) ∧ ¬ 20 < x3) ∧ 0 < x3 => e3 z.2)] at h8
        rw [if_neg (fun z : ¬ (1 : Int32) = 0 ∧ 0 < x3 => e3 z.2)]
        exact h8
theorem mr_l89 {post : Int32 → St0 → Prop} {mc ms kc ks : Nat} {x0 x1 x2 x3 x5 x6 x7 x8 x9 x10 x11 x12 : Int32} (HP : (¬ x11 = 0 ∧ ¬ x1 < 0 ∧ ¬ 8 < x1) → wL_lawOf_111 post mc ms x0 x1 x2 x3 x5 x6 x7 x8 x9 x10 x12 1 kc ks) (HN : ¬ (¬ x11 = 0 ∧ ¬ x1 < 0 ∧ ¬ 8 < x1) → wL_lawOf_111 post mc ms x0 x1 x2 x3 x5 x6 x7 x8 x9 x10 x12 0 kc ks) : wL_lawOf_89 post mc ms x0 x1 x2 x3 x5 x6 x7 x8 x9 x10 x11 x12 kc ks :=
  br_c (fun e => HN (fun z => z.1 e)) (fun e => br_c (fun e2 => HN (fun z => z.2.1 e2)) (fun e2 => br_c (fun e3 => HN (fun z => z.2.2 e3)) (fun e3 => HP ⟨e, e2, e3⟩)))
theorem mr_l72 {post : Int32 → St0 → Prop} {mc ms kc ks : Nat} {x0 x1 x2 x3 x5 x6 x7 x8 x9 x10 x11 : Int32} (HP : (¬ x2 < 0 ∧ ¬ 19 < x2) → wL_lawOf_89 post mc ms x0 x1 x2 x3 x5 x6 x7 x8 x9 x10 x11 1 kc ks) (HN : ¬ (¬ x2 < 0 ∧ ¬ 19 < x2) → wL_lawOf_89 post mc ms x0 x1 x2 x3 x5 x6 x7 x8 x9 x10 x11 0 kc ks) : wL_lawOf_72 post mc ms x0 x1 x2 x3 x5 x6 x7 x8 x9 x10 x11 kc ks :=
  br_c (fun e => HN (fun z => z.1 e)) (fun e => br_c (fun e2 => HN (fun z => z.2 e2)) (fun e2 => HP ⟨e, e2⟩))
end
section
theorem mr_20 (x : Int32) : (∃ j, j < 20 ∧ x = nI j) ∨ (¬ (¬ x < 0 ∧ x < 20) ∧ ¬ (¬ x < 0 ∧ ¬ 19 < x)) := by
  by_cases h : ¬ x < 0 ∧ x < 20
  · obtain ⟨j, hj, e⟩ := nI_of h.1
    refine Or.inl ⟨j, ?_, e⟩
    have h2 := h.2
    rw [e] at h2
    exact (nI_ltI hj (show 20 < 2 ^ 31 by omega)).mp h2
  · refine Or.inr ⟨h, fun z => h ⟨z.1, ?_⟩⟩
    have z2 := z.2
    rw [Int32.lt_iff_toInt_lt, show (19 : Int32).toInt = 19 by decide] at z2
    rw [Int32.lt_iff_toInt_lt, show (20 : Int32).toInt = 20 by decide]
    omega
theorem mr_9 (x : Int32) : (∃ j, j ≤ 8 ∧ x = nI j) ∨ (¬ (¬ x < 0 ∧ x ≤ 8) ∧ ¬ (¬ x < 0 ∧ ¬ 8 < x)) := by
  by_cases h : ¬ x < 0 ∧ x ≤ 8
  · obtain ⟨j, hj, e⟩ := nI_of h.1
    refine Or.inl ⟨j, ?_, e⟩
    have h2 := h.2
    rw [e] at h2
    exact (nI_leI hj (show 8 < 2 ^ 31 by omega)).mp h2
  · refine Or.inr ⟨h, fun z => h ⟨z.1, ?_⟩⟩
    have z2 := z.2
    rw [Int32.lt_iff_toInt_lt, show (8 : Int32).toInt = 8 by decide] at z2
    rw [Int32.le_iff_toInt_le, show (8 : Int32).toInt = 8 by decide]
    omega
def mr_wn (p : Int32) : Int32 := if ¬ p < (-1) ∧ p ≤ 20 then p else (-1)
theorem mr_total1 {post : Int32 → St2 → Prop} {cov gc rst cel mn dm df cl : Int32} {a1 a2 a3 a4 a5 a6 a7 a8 a9 a10 : Nat → Int32} {p : Int32} (H : post (-1) (mr_wn p, cov, gc, rst, cel, mn, dm, df, cl, a1, a2, a3, a4, a5, a6, a7, a8, a9, a10)) : wpX_total post (-1, cov, gc, rst, cel, mn, dm, df, cl, a1, a2, a3, a4, a5, a6, a7, a8, a9, a10) p := by
  unfold mr_wn at H
  refine mr_total (fun e => ?_) (fun e => ?_)
  · rw [if_pos e] at H
    exact H
  · rw [if_neg e] at H
    exact H
theorem mr_wX {x1 x13 p v : Int32} (hv : v = if x13 = 0 ∨ x1 = 0 then 1 else 0) : mr_wr (mr_wn p) v = mr_X x1 p x13 := by
  unfold mr_X
  by_cases hf : ¬ p < (-1) ∧ ¬ 20 < p
  · have hf' : ¬ p < (-1) ∧ p ≤ 20 := ⟨hf.1, Int32.not_lt.mp hf.2⟩
    have ew : mr_wn p = p := if_pos hf'
    rw [ew]
    by_cases h0 : 0 < p
    · have n1 : ¬ p = (-1) := by
        intro e
        rw [e] at h0
        exact absurd h0 (by decide)
      have n0 : ¬ p = 0 := by
        intro e
        rw [e] at h0
        exact absurd h0 (by decide)
      rw [if_pos (show (¬ p < (-1) ∧ ¬ 20 < p) ∧ 0 < p from ⟨hf, h0⟩)]
      unfold mr_wr
      rw [if_neg n1, if_neg n0]
      split <;> rfl
    · rw [if_neg (show ¬ ((¬ p < (-1) ∧ ¬ 20 < p) ∧ 0 < p) from fun z => h0 z.2), ← hv]
      unfold mr_wr
      by_cases n1 : p = (-1)
      · rw [if_pos n1]
      · rw [if_neg n1]
        have n0 : p = 0 := by
          have a := hf.1
          rw [Int32.lt_iff_toInt_lt, show (-1 : Int32).toInt = -1 by decide] at a
          rw [Int32.lt_iff_toInt_lt, show (0 : Int32).toInt = 0 by decide] at h0
          have b : ¬ p.toInt = -1 := fun z => n1 (Int32.toInt_inj.mp (z.trans (show (-1 : Int) = (-1 : Int32).toInt by decide)))
          exact Int32.toInt_inj.mp (show p.toInt = (0 : Int32).toInt by rw [show (0 : Int32).toInt = 0 by decide]; omega)
        rw [if_pos n0]
  · have ew : mr_wn p = (-1) := if_neg (fun z => hf ⟨z.1, Int32.not_lt.mpr z.2⟩)
    rw [ew, if_neg (show ¬ ((¬ p < (-1) ∧ ¬ 20 < p) ∧ 0 < p) from fun z => hf z.1), ← hv]
    exact if_pos rfl
def mr_cr (a : Nat → Int32) (p : Int32) : Int32 := if ¬ p < 0 ∧ p < 20 then (if a p.toNatClampNeg = (-1) then (-2) else a p.toNatClampNeg) else (-1)
theorem mr_cr_in {a : Nat → Int32} {d : Nat} (hd : d < 20) : mr_cr a (nI d) = if a d = (-1) then (-2) else a d := by
  unfold mr_cr
  rw [if_pos (mr_cellI hd), nI_clamp (by omega)]
theorem mr_cr_out {a : Nat → Int32} {p : Int32} (h : ¬ (¬ p < 0 ∧ p < 20)) : mr_cr a p = (-1) := if_neg h
theorem mr_clueR {post : Int32 → Prop} {w cov gc rst cel mn dm df cl : Int32} {a1 a2 a3 a4 a5 a6 a7 a8 a9 a10 : Nat → Int32} {p : Int32} (H : post (mr_cr a1 p)) : wpX_clue post (w, cov, gc, rst, cel, mn, dm, df, cl, a1, a2, a3, a4, a5, a6, a7, a8, a9, a10) p := by
  rcases mr_20 p with ⟨d, hd, e⟩ | ⟨h, _⟩
  · rw [e, mr_cr_in hd] at H
    rw [e]
    exact mr_clue_ok hd H
  · rw [mr_cr_out h] at H
    exact mr_clue_no h H
theorem mr_coverR {post : Int32 → St2 → Prop} {w cov gc rst cel mn dm df cl : Int32} {a1 a2 a3 a4 a5 a6 a7 a8 a9 a10 : Nat → Int32} {p : Int32} (H : ∀ u, post (mr_cr a1 p) u) : wpX_cover post (w, cov, gc, rst, cel, mn, dm, df, cl, a1, a2, a3, a4, a5, a6, a7, a8, a9, a10) p := by
  rcases mr_20 p with ⟨d, hd, e⟩ | ⟨h, _⟩
  · rw [e, mr_cr_in hd] at H
    rw [e]
    exact mr_cover_ok hd H
  · rw [mr_cr_out h] at H
    exact mr_cover_no h H
theorem mr_crA {a : Nat → Int32} {c k d : Nat} (h1 : mr_one a c k) (hd : d < 20) : mr_cr a (nI d) = mr_E (nI c) (nI k) (nI d) 1 1 := by
  have hc := h1.1
  rw [mr_cr_in hd]
  unfold mr_E
  rw [if_neg (show ¬ (1 : Int32) = 0 by decide), if_neg (show ¬ (1 : Int32) = 0 by decide)]
  by_cases e : d = c
  · rw [e, if_neg (mr_one_n h1), if_pos rfl]
    exact h1.2.2.1
  · rw [if_pos (h1.2.2.2 d hd e), if_neg]
    intro z
    rw [nI_eq (by omega) (by omega)] at z
    exact e z.symm
theorem mr_crB {a : Nat → Int32} {x0 x1 : Int32} {d : Nat} (h1 : mr_non a) (hd : d < 20) : mr_cr a (nI d) = mr_E x0 x1 (nI d) 1 0 := by
  rw [mr_cr_in hd, if_pos (h1 d hd)]
  unfold mr_E
  rw [if_neg (show ¬ (1 : Int32) = 0 by decide), if_pos rfl]
theorem mr_crO {a : Nat → Int32} {x0 x1 x13 p : Int32} (h : ¬ (¬ p < 0 ∧ p < 20)) : mr_cr a p = mr_E x0 x1 p 0 x13 := by
  rw [mr_cr_out h]
  unfold mr_E
  rw [if_pos rfl]
theorem mr_srS {k p : Nat} (hk : k ≤ 8) (hp : p ≤ 20) : mr_sr k p = mr_S (nI k) 1 (nI p) := by
  unfold mr_sr mr_S
  rw [if_neg (show ¬ (1 : Int32) = 0 by decide)]
  by_cases e : p < k
  · rw [if_pos e, if_neg (nI_ge e (by omega))]
  · rw [if_neg e, if_pos (nI_le (by omega) (by omega))]
    by_cases e2 : k = 0
    · rw [if_pos (Or.inl e2), if_pos (by rw [e2]; rfl)]
    · rw [if_neg (show ¬ nI k = 0 from nI_ne0 (by omega) (by omega))]
      by_cases e3 : k = p
      · rw [if_pos (Or.inr e3), if_pos (by rw [e3])]
      · rw [if_neg (by omega), if_neg]
        intro z
        rw [nI_eq (by omega) (by omega)] at z
        exact e3 z
theorem mr_topA {post : Int32 → St0 → Prop} {mc ms kc ks : Nat} {c k : Nat} {p2 p3 : Int32} {a : Nat → Int32} (h1 : mr_one a c k) (H : post 1 ()) :
    wL_lawOf_72 post mc ms (nI c) (nI k) p2 p3 (-2) (-1) (mr_cr a p2) (mr_wr (mr_wn p3) (if k = 0 then 1 else 0)) (mr_sr k (mr_pc 20 (mr_N c))) (mr_cr a p2) 1 kc ks := by
  have hk := h1.2.1
  have h8 : mr_wr (mr_wn p3) (if k = 0 then 1 else 0) = mr_X (nI k) p3 1 := by
    refine mr_wX ?_
    by_cases e : k = 0
    · rw [if_pos e, if_pos (Or.inr (by rw [e]; rfl))]
    · rw [if_neg e, if_neg]
      intro z
      rcases z with z | z
      · exact absurd z (by decide)
      · exact nI_ne0 (show 0 < k by omega) (by omega) z
  have h9 : mr_sr k (mr_pc 20 (mr_N c)) = mr_S (nI k) 1 ((mr_rows (nI c) * mr_cols (nI c)) - 1) := by
    rw [mr_f9 c h1.1]
    exact mr_srS hk (mr_pc_le 20 _)
  have hput : ¬ (1 : Int32) = 0 ∧ ¬ nI k < 0 ∧ ¬ 8 < nI k := ⟨by decide, nI_pos (by omega), nI_nlt (a := 8) hk (by omega)⟩
  rcases mr_20 p2 with ⟨d, hd, e⟩ | ⟨ho, ho2⟩
  · subst e
    have hE := mr_crA h1 hd
    exact mr_l72 (fun _ => mr_l89 (fun _ => mr_l111 rfl rfl hE h8 h9 hE H) (fun z => absurd hput z)) (fun z => absurd ⟨nI_pos (by omega), nI_nlt (a := 19) (show d ≤ 19 by omega) (by omega)⟩ z)
  · have hE : mr_cr a p2 = mr_E (nI c) (nI k) p2 0 1 := mr_crO ho
    exact mr_l72 (fun z => absurd z ho2) (fun _ => mr_l89 (fun _ => mr_l111 rfl rfl hE h8 h9 hE H) (fun z => absurd hput z))
theorem mr_topB {post : Int32 → St0 → Prop} {mc ms kc ks : Nat} {p0 p1 p2 p3 x11 : Int32} {a : Nat → Int32} (h1 : mr_non a) (hn : ¬ (¬ x11 = 0 ∧ ¬ p1 < 0 ∧ ¬ 8 < p1)) (H : post 1 ()) :
    wL_lawOf_72 post mc ms p0 p1 p2 p3 (-1) (-1) (mr_cr a p2) (mr_wr (mr_wn p3) 1) 0 (mr_cr a p2) x11 kc ks := by
  have h8 : mr_wr (mr_wn p3) 1 = mr_X p1 p3 0 := mr_wX (if_pos (Or.inl rfl)).symm
  rcases mr_20 p2 with ⟨d, hd, e⟩ | ⟨ho, ho2⟩
  · subst e
    have hE : mr_cr a (nI d) = mr_E p0 p1 (nI d) 1 0 := mr_crB h1 hd
    exact mr_l72 (fun _ => mr_l89 (fun z => absurd z hn) (fun _ => mr_l111 rfl rfl hE h8 rfl hE H)) (fun z => absurd ⟨nI_pos (by omega), nI_nlt (a := 19) (show d ≤ 19 by omega) (by omega)⟩ z)
  · have hE : mr_cr a p2 = mr_E p0 p1 p2 0 0 := mr_crO ho
    exact mr_l72 (fun z => absurd z ho2) (fun _ => mr_l89 (fun z => absurd z hn) (fun _ => mr_l111 rfl rfl hE h8 rfl hE H))
theorem mr_oneU {a : Nat → Int32} {c k : Nat} (h : mr_non a) (hc : c < 20) (hk : k ≤ 8) : mr_one (upd a c (nI k)) c k := ⟨hc, hk, pk_us, fun j hj e => by rw [pk_un e]; exact h j hj⟩
theorem mr_lawA {post : Int32 → St0 → Prop} {mc ms : Nat} {c k : Nat} {p2 p3 : Int32} (hc : c < 20) (hk : k ≤ 8) (hmc : 11 ≤ mc) (hms : 1443 ≤ ms) (H : post 1 ()) : wpL_lawOf post mc ms () (nI c) (nI k) p2 p3 := by
  unfold wpL_lawOf
  refine ⟨by omega, by omega, mc - 1, ms - 19, by omega, by omega, mr_init (by omega) (by omega) (fun b1 b2 b8 g1 g2 g8 => ?_)⟩
  have h1 := mr_oneU g1 hc hk
  have hC := mr_cov_one h1
  refine mr_show_ok hc hk (g1 c hc) (mr_total1 (mr_clueR (mr_wm h1 (g2 c hc) hC g8 (fun g r K m b3 b4 b5 b6 b7 b9 b10 => mr_simple h1 (g2 c hc) hC (fun D F x => mr_coverR (fun u => ?_))))))
  obtain ⟨w, cov, gc, rst, cel, mn, dm, df, cl, a1, a2, a3, a4, a5, a6, a7, a8, a9, a10⟩ := u
  exact br_f (nI_pos (by omega)) (br_f (nI_nlt (a := 19) (show c ≤ 19 by omega) (by omega)) (mr_topA h1 H))
theorem mr_lawB {post : Int32 → St0 → Prop} {mc ms : Nat} {p0 p1 p2 p3 : Int32} (hs : ¬ ((¬ p0 < 0 ∧ p0 < 20) ∧ ¬ p1 < 0 ∧ p1 ≤ 8)) (hl : ¬ ((¬ p0 < 0 ∧ ¬ 19 < p0) ∧ ¬ p1 < 0 ∧ ¬ 8 < p1)) (hmc : 11 ≤ mc) (hms : 1443 ≤ ms) (H : post 1 ()) : wpL_lawOf post mc ms () p0 p1 p2 p3 := by
  unfold wpL_lawOf
  refine ⟨by omega, by omega, mc - 1, ms - 19, by omega, by omega, mr_init (by omega) (by omega) (fun b1 b2 b8 g1 g2 g8 => ?_)⟩
  refine mr_show_no hs (mr_total1 (mr_clueR (mr_wm_non g1 g8 (fun g r K m b3 b4 b5 b6 b7 b9 b10 => mr_simple_non g1 (fun D F x => mr_coverR (fun u => ?_))))))
  obtain ⟨w, cov, gc, rst, cel, mn, dm, df, cl, a1, a2, a3, a4, a5, a6, a7, a8, a9, a10⟩ := u
  exact br_c (fun _ => mr_topB g1 (fun z => z.1 rfl) H) (fun e => br_c (fun _ => mr_topB g1 (fun z => z.1 rfl) H) (fun e2 => mr_topB g1 (fun z => hl ⟨⟨e, e2⟩, z.2⟩) H))
theorem mr_law {post : Int32 → St0 → Prop} {mc ms : Nat} (p0 p1 p2 p3 : Int32) (hmc : 11 ≤ mc) (hms : 1443 ≤ ms) (H : post 1 ()) : wpL_lawOf post mc ms () p0 p1 p2 p3 := by
  rcases mr_20 p0 with ⟨c, hc, e⟩ | ⟨h1, h2⟩
  · rcases mr_9 p1 with ⟨k, hk, e2⟩ | ⟨h1, h2⟩
    · rw [e, e2]
      exact mr_lawA hc hk hmc hms H
    · exact mr_lawB (fun z => h1 z.2) (fun z => h2 z.2) hmc hms H
  · exact mr_lawB (fun z => h1 z.1) (fun z => h2 z.1) hmc hms H
theorem mr_cellAt {post : Int32 → Prop} {L : Nat} {xs : Nat → Int32} (i : Nat) (hi : i < 4) (hL : L ≤ 4) (H : ∀ x, post x) : wpL_cellAt post L xs () (nI i) :=
  pk_le L i (fun _ => H 0) (fun z => ⟨pk_in i L z, H _⟩)
theorem i_vc (xs : Nat → Int32) (L : Nat) (hL : L ≤ 4) : wpL_law (fun r => r = 1) L xs := by
  unfold wpL_law
  exact mr_cellAt 0 (by omega) hL (fun r1 => mr_cellAt 1 (by omega) hL (fun r2 => mr_cellAt 2 (by omega) hL (fun r3 => mr_cellAt 3 (by omega) hL (fun r4 => ⟨746, 11920, by omega, by omega, mr_law r1 r2 r3 r4 (by omega) (by omega) rfl⟩))))
end
