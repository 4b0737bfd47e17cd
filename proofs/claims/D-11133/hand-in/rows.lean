section
theorem cf_in {x : Int32} {n : Nat} (h : 0 ≤ x.toInt ∧ x.toInt < n) : vp_in x n := vp_in_iff.mpr h
theorem cf_to {α : Type} {p : α → Prop} {x y : α} (e : x = y) (h : p y) : p x := e ▸ h
theorem cf_sh {t u v : Int32} (h : t = u) (e : (1 : Int32) <<< (u &&& 31) = v) : (1 : Int32) <<< (t &&& 31) = v := by
  rw [h]
  exact e
theorem cf_lt {t u p : Int32} (h : t = u) (e : p < u) : p < t := by
  rw [h]
  exact e
theorem cf_nlt {t u p : Int32} (h : t = u) (e : ¬ p < u) : ¬ p < t := by
  rw [h]
  exact e
theorem cf_fill {s : Nat → Int32} {i k : Nat} (hk : k = i) (h : ∀ j, j < i → s j = 0) : ∀ j, j < i + 1 → upd s k 0 j = 0 := by
  intro j hj
  rw [hk]
  by_cases e : j = i
  · rw [e, pk_us]
  · rw [pk_un e]
    exact h j (by omega)
theorem cf_bad {post : Int32 → Prop} {u : St0} (H : post 0) : wpX_bad post u 3 := br_f (by decide) (br_t (by decide) H)
/-- the program that the law emits: function 1, four instructions; k: add or subtract; c: the constant -/
def cf_P (k c : Int32) (a1 a2 a3 a4 a5 : Nat → Int32) : Prop :=
  (a1 0 = 0 ∧ a1 1 = 4 ∧ a1 2 = 0) ∧ (a2 8 = 0 ∧ a2 9 = k ∧ a2 10 = 5 ∧ a2 11 = 7) ∧ (a3 8 = 1 ∧ a3 9 = 0 ∧ a3 10 = 0 ∧ a3 11 = 2) ∧ (a4 8 = 0 ∧ a4 9 = 1 ∧ a4 10 = 2 ∧ a4 11 = 0) ∧ a5 8 = c ∧ (k = 1 ∨ k = 2)
section
variable {an fn pl : Int32} {a1 a2 a3 a4 a5 a6 a7 a8 a9 a10 a11 a12 a13 a14 : Nat → Int32}
theorem cf_emit {post : Int32 → St2 → Prop} {op rg c s i : Int32} {k : Nat} (h7 : ∀ j, j < 4 → a7 j = 0) (ho : ¬ op < 0) (ho7 : op ≤ 7) (hs : a1 1 = s) (hs8 : s < 8) (hi : (1 : Int32) * 8 + s = i) (hin : vp_in i 24) (hk : i.toNatClampNeg = k)
    (H : ∀ r, post r (0, fn, pl, upd a1 1 (s + 1), upd a2 k op, upd a3 k (rg &&& 3), upd a4 k ((rg >>> ((2 : Int32) &&& 31)) &&& 3), upd a5 k c, a6, a7, a8, a9, a10, a11, a12, a13, a14)) :
    wpX_emit post (an, fn, pl, a1, a2, a3, a4, a5, a6, a7, a8, a9, a10, a11, a12, a13, a14) 1 op rg c := by
  subst hs hi hk
  refine br_f (by decide) (br_f (by decide) (br_f ho (br_t ho7 ⟨5, ?_⟩)))
  refine br_f (by decide) ⟨cf_in (by decide), br_t (h7 0 (by decide)) (nm_r (e' := 1) (by decide) ?_)⟩
  refine br_f (by decide) ⟨cf_in (by decide), br_t (h7 1 (by decide)) (nm_r (e' := 2) (by decide) ?_)⟩
  refine br_f (by decide) ⟨cf_in (by decide), br_t (h7 2 (by decide)) (nm_r (e' := 3) (by decide) ?_)⟩
  refine br_f (by decide) ⟨cf_in (by decide), br_t (h7 3 (by decide)) (nm_r (e' := 4) (by decide) ?_)⟩
  refine br_t (by decide) ⟨cf_in (by decide), br_t hs8 ⟨cf_in (by decide), nm_e ⟨hin, nm_e ⟨hin, nm_e ⟨hin, nm_e ⟨hin, nm_e ⟨cf_in (by decide), cf_in (by decide), nm_e ⟨cf_in (by decide), ?_⟩⟩⟩⟩⟩⟩⟩⟩
  exact H _
theorem cf_start {post : Int32 → St2 → Prop} {x : Int32}
    (H : ∀ r, post r (an, fn, pl, a1, a2, a3, a4, a5, a6, upd a7 3 1, upd a8 3 0, upd a9 3 0, upd a10 3 1, upd a11 12 1, upd a12 12 (-1), upd a13 48 x, a14)) :
    wpX_start post (an, fn, pl, a1, a2, a3, a4, a5, a6, a7, a8, a9, a10, a11, a12, a13, a14) 3 1 x := by
  unfold wpX_start
  dsimp only
  refine cf_bad ?_
  refine br_t rfl (br_f (by decide) (br_t (by decide) ⟨cf_in (by decide), nm_e ⟨cf_in (by decide), nm_e ⟨cf_in (by decide), nm_e ⟨cf_in (by decide), nm_e ⟨cf_in (by decide), nm_e ⟨cf_in (by decide), nm_e ⟨cf_in (by decide), nm_e ?_⟩⟩⟩⟩⟩⟩⟩))
  exact H _
end
end
section
section
variable {an fn pl : Int32} {a1 a2 a3 a4 a5 a6 a7 a8 a9 a10 a11 a12 a13 a14 : Nat → Int32}
theorem cf_ra {post : Int32 → Prop} {p v : Int32} {k : Nat} (h1 : a1 1 = 4) (h0 : ¬ p < 0) (h4 : p < 4) (hin : vp_in ((1 : Int32) * 9 + p) 27) (hk : ((1 : Int32) * 9 + p).toNatClampNeg = k) (hv : a6 k = v) (H : post v) : wpX_readsAt post (an, fn, pl, a1, a2, a3, a4, a5, a6, a7, a8, a9, a10, a11, a12, a13, a14) 1 p := by
  subst hk hv
  exact br_f h0 ⟨cf_in (by decide), br_t (cf_lt h1 h4) ⟨hin, H⟩⟩
theorem cf_raE {post : Int32 → Prop} {p : Int32} (h1 : a1 1 = 4) (h0 : ¬ p < 0) (h4 : ¬ p < 4) (H : post 0) : wpX_readsAt post (an, fn, pl, a1, a2, a3, a4, a5, a6, a7, a8, a9, a10, a11, a12, a13, a14) 1 p :=
  br_f h0 ⟨cf_in (by decide), br_f (cf_nlt h1 h4) H⟩
theorem cf_rb3 {post : Int32 → Prop} {k c : Int32} (P : cf_P k c a1 a2 a3 a4 a5) (H : post 4) : wpX_readsBefore post (an, fn, pl, a1, a2, a3, a4, a5, a6, a7, a8, a9, a10, a11, a12, a13, a14) 1 3 := by
  obtain ⟨⟨-, p1, -⟩, ⟨-, -, -, p2⟩, ⟨-, -, -, p3⟩, ⟨-, -, -, p4⟩, -, -⟩ := P
  refine nm_r (e' := 11) (by decide) ⟨cf_in (by decide), nm_r (e' := 4) (cf_sh p3 (by decide)) ⟨cf_in (by decide), nm_r (e' := 1) (cf_sh p4 (by decide)) ?_⟩⟩
  exact cf_raE p1 (by decide) (by decide) ⟨cf_in (by decide), nm_r (e' := 7) p2 (br_f (by decide) (br_t (by decide) H))⟩
theorem cf_rb2 {post : Int32 → Prop} {k c : Int32} (P : cf_P k c a1 a2 a3 a4 a5) (h6 : a6 12 = 4) (H : post 1) : wpX_readsBefore post (an, fn, pl, a1, a2, a3, a4, a5, a6, a7, a8, a9, a10, a11, a12, a13, a14) 1 2 := by
  obtain ⟨⟨-, p1, -⟩, ⟨-, -, p2, -⟩, ⟨-, -, p3, -⟩, ⟨-, -, p4, -⟩, -, -⟩ := P
  refine nm_r (e' := 10) (by decide) ⟨cf_in (by decide), nm_r (e' := 1) (cf_sh p3 (by decide)) ⟨cf_in (by decide), nm_r (e' := 4) (cf_sh p4 (by decide)) ?_⟩⟩
  refine cf_ra (k := 12) p1 (by decide) (by decide) (cf_in (by decide)) (by decide) h6 ⟨cf_in (by decide), nm_r (e' := 5) p2 (br_f (by decide) (br_f (by decide) (br_f (by decide) (br_f (by decide) (br_f (by decide) (br_f (by decide) (br_f (by decide) (br_t rfl ?_))))))))⟩
  exact cf_to (by decide) H
theorem cf_rb1 {post : Int32 → Prop} {k c : Int32} (P : cf_P k c a1 a2 a3 a4 a5) (h6 : a6 11 = 1) (H : post 3) : wpX_readsBefore post (an, fn, pl, a1, a2, a3, a4, a5, a6, a7, a8, a9, a10, a11, a12, a13, a14) 1 1 := by
  obtain ⟨⟨-, p1, -⟩, ⟨-, p2, -, -⟩, ⟨-, p3, -, -⟩, ⟨-, p4, -, -⟩, -, hk⟩ := P
  refine nm_r (e' := 9) (by decide) ⟨cf_in (by decide), nm_r (e' := 1) (cf_sh p3 (by decide)) ⟨cf_in (by decide), nm_r (e' := 2) (cf_sh p4 (by decide)) ?_⟩⟩
  refine cf_ra (k := 11) p1 (by decide) (by decide) (cf_in (by decide)) (by decide) h6 ⟨cf_in (by decide), nm_r (e' := k) p2 ?_⟩
  rcases hk with rfl | rfl
  · exact br_f (by decide) (br_f (by decide) (br_f (by decide) (br_t rfl (cf_to (p := post) (by decide) H))))
  · exact br_f (by decide) (br_f (by decide) (br_f (by decide) (br_f (by decide) (br_t rfl (cf_to (p := post) (by decide) H)))))
theorem cf_rb0 {post : Int32 → Prop} {k c : Int32} (P : cf_P k c a1 a2 a3 a4 a5) (h6 : a6 10 = 3) (H : post 1) : wpX_readsBefore post (an, fn, pl, a1, a2, a3, a4, a5, a6, a7, a8, a9, a10, a11, a12, a13, a14) 1 0 := by
  obtain ⟨⟨-, p1, -⟩, ⟨p2, -, -, -⟩, ⟨p3, -, -, -⟩, ⟨p4, -, -, -⟩, -, -⟩ := P
  refine nm_r (e' := 8) (by decide) ⟨cf_in (by decide), nm_r (e' := 2) (cf_sh p3 (by decide)) ⟨cf_in (by decide), nm_r (e' := 1) (cf_sh p4 (by decide)) ?_⟩⟩
  exact cf_ra (k := 10) p1 (by decide) (by decide) (cf_in (by decide)) (by decide) h6 ⟨cf_in (by decide), nm_r (e' := 0) p2 (br_f (by decide) (br_f (by decide) (br_t rfl (cf_to (p := post) (by decide) H))))⟩
theorem cf_kept {post : Int32 → Prop} {k c : Int32} (P : cf_P k c a1 a2 a3 a4 a5) (h6 : a6 12 = 4) (H : post 0) : wpX_keptAt post (an, fn, pl, a1, a2, a3, a4, a5, a6, a7, a8, a9, a10, a11, a12, a13, a14) 1 2 := by
  obtain ⟨⟨-, p1, -⟩, ⟨-, -, p2, -⟩, -, ⟨-, -, p4, -⟩, -, -⟩ := P
  refine nm_r (e' := 10) (by decide) ⟨cf_in (by decide), br_t p2 ⟨cf_in (by decide), ?_⟩⟩
  rw [show a4 (10 : Int32).toNatClampNeg = 2 from p4]
  unfold wX_keptAt_32
  refine cf_ra (k := 12) p1 (by decide) (by decide) (cf_in (by decide)) (by decide) h6 ?_
  exact cf_to (p := post) (by decide) H
/-- one place of the analysis: behind the function's end; a set that grows; a set that stands -/
theorem cf_aaE {post : Int32 → St2 → Prop} {f p s : Int32} {k : Nat} (hf : vp_in f 3) (hk : f.toNatClampNeg = k) (hs : a1 k = s) (hp : ¬ p < s) (H : post 0 (an, fn, pl, a1, a2, a3, a4, a5, a6, a7, a8, a9, a10, a11, a12, a13, a14)) : wpX_analyseAt post (an, fn, pl, a1, a2, a3, a4, a5, a6, a7, a8, a9, a10, a11, a12, a13, a14) f p := by
  subst hk hs
  exact ⟨hf, br_f hp H⟩
theorem cf_aaN {post : Int32 → St2 → Prop} {p v : Int32} {k : Nat} (h1 : a1 1 = 4) (h4 : p < 4) (hin : vp_in ((1 : Int32) * 9 + p) 27) (hk : ((1 : Int32) * 9 + p).toNatClampNeg = k) (hv : ¬ v = a6 k) (RB : ∀ Q : Int32 → Prop, Q v → wpX_readsBefore Q (an, fn, pl, a1, a2, a3, a4, a5, a6, a7, a8, a9, a10, a11, a12, a13, a14) 1 p) (H : post 1 (an, fn, pl, a1, a2, a3, a4, a5, upd a6 k v, a7, a8, a9, a10, a11, a12, a13, a14)) : wpX_analyseAt post (an, fn, pl, a1, a2, a3, a4, a5, a6, a7, a8, a9, a10, a11, a12, a13, a14) 1 p := by
  subst hk
  exact ⟨cf_in (by decide), br_t (cf_lt h1 h4) (RB _ ⟨hin, br_f hv ⟨hin, nm_e H⟩⟩)⟩
theorem cf_aaS {post : Int32 → St2 → Prop} {p v : Int32} {k : Nat} (h1 : a1 1 = 4) (h4 : p < 4) (hin : vp_in ((1 : Int32) * 9 + p) 27) (hk : ((1 : Int32) * 9 + p).toNatClampNeg = k) (hv : v = a6 k) (RB : ∀ Q : Int32 → Prop, Q v → wpX_readsBefore Q (an, fn, pl, a1, a2, a3, a4, a5, a6, a7, a8, a9, a10, a11, a12, a13, a14) 1 p) (H : post 0 (an, fn, pl, a1, a2, a3, a4, a5, a6, a7, a8, a9, a10, a11, a12, a13, a14)) : wpX_analyseAt post (an, fn, pl, a1, a2, a3, a4, a5, a6, a7, a8, a9, a10, a11, a12, a13, a14) 1 p := by
  subst hk
  exact ⟨cf_in (by decide), br_t (cf_lt h1 h4) (RB _ ⟨hin, br_t hv H⟩)⟩
end
end
section
section
variable {an fn pl : Int32} {a1 a2 a3 a4 a5 a6 a7 a8 a9 a10 a11 a12 a13 a14 : Nat → Int32} {post : St2 → Prop} {J : Int32 → Int32 → Int32 → Int32 → Int32 → (Nat → Int32) → (Nat → Int32) → (Nat → Int32) → (Nat → Int32) → (Nat → Int32) → (Nat → Int32) → (Nat → Int32) → (Nat → Int32) → (Nat → Int32) → (Nat → Int32) → (Nat → Int32) → (Nat → Int32) → (Nat → Int32) → (Nat → Int32) → Prop} {x1 x2 x3 : Int32} {n : Nat}
/-- one turn of a pass: a place behind its function's end -/
theorem cf_53E {s y : Int32} {k : Nat} (h0 : ¬ x3 < 0) (hf : vp_in (x3 / 8) 3) (hk : (x3 / 8).toNatClampNeg = k) (hs : a1 k = s) (hp : ¬ x3 - x3 / 8 * 8 < s) (hx : x1 = 0 ∨ x1 = 1) (hy : x3 + (-1) = y) (H : wX_analyse_53 post J x2 n x1 y an fn pl a1 a2 a3 a4 a5 a6 a7 a8 a9 a10 a11 a12 a13 a14) : wX_analyse_53 post J x2 (n + 1) x1 x3 an fn pl a1 a2 a3 a4 a5 a6 a7 a8 a9 a10 a11 a12 a13 a14 := by
  subst hy
  refine br_f h0 ⟨by decide, by decide, cf_aaE hf hk hs hp ?_⟩
  rcases hx with rfl | rfl
  · exact br_t rfl (br_t rfl (nm_e H))
  · exact br_f (by decide) (nm_e H)
/-- .. a set that grows -/
theorem cf_53N {p v y : Int32} {k : Nat} (h0 : ¬ x3 < 0) (hf : x3 / 8 = 1) (hp : x3 - x3 / 8 * 8 = p) (hx : x1 = 0 ∨ x1 = 1) (hy : x3 + (-1) = y) (h1 : a1 1 = 4) (h4 : p < 4) (hin : vp_in ((1 : Int32) * 9 + p) 27) (hk : ((1 : Int32) * 9 + p).toNatClampNeg = k) (hv : ¬ v = a6 k) (RB : ∀ Q : Int32 → Prop, Q v → wpX_readsBefore Q (an, fn, pl, a1, a2, a3, a4, a5, a6, a7, a8, a9, a10, a11, a12, a13, a14) 1 p) (H : wX_analyse_53 post J x2 n 1 y an fn pl a1 a2 a3 a4 a5 (upd a6 k v) a7 a8 a9 a10 a11 a12 a13 a14) : wX_analyse_53 post J x2 (n + 1) x1 x3 an fn pl a1 a2 a3 a4 a5 a6 a7 a8 a9 a10 a11 a12 a13 a14 := by
  subst hy
  refine br_f h0 ⟨by decide, by decide, ?_⟩
  rw [hp, hf]
  refine cf_aaN h1 h4 hin hk hv RB ?_
  rcases hx with rfl | rfl
  · exact br_t rfl (br_f (by decide) (nm_e H))
  · exact br_f (by decide) (nm_e H)
/-- .. a set that stands -/
theorem cf_53S {p v y : Int32} {k : Nat} (h0 : ¬ x3 < 0) (hf : x3 / 8 = 1) (hp : x3 - x3 / 8 * 8 = p) (hx : x1 = 0 ∨ x1 = 1) (hy : x3 + (-1) = y) (h1 : a1 1 = 4) (h4 : p < 4) (hin : vp_in ((1 : Int32) * 9 + p) 27) (hk : ((1 : Int32) * 9 + p).toNatClampNeg = k) (hv : v = a6 k) (RB : ∀ Q : Int32 → Prop, Q v → wpX_readsBefore Q (an, fn, pl, a1, a2, a3, a4, a5, a6, a7, a8, a9, a10, a11, a12, a13, a14) 1 p) (H : wX_analyse_53 post J x2 n x1 y an fn pl a1 a2 a3 a4 a5 a6 a7 a8 a9 a10 a11 a12 a13 a14) : wX_analyse_53 post J x2 (n + 1) x1 x3 an fn pl a1 a2 a3 a4 a5 a6 a7 a8 a9 a10 a11 a12 a13 a14 := by
  subst hy
  refine br_f h0 ⟨by decide, by decide, ?_⟩
  rw [hp, hf]
  refine cf_aaS h1 h4 hin hk hv RB ?_
  rcases hx with rfl | rfl
  · exact br_t rfl (br_t rfl (nm_e H))
  · exact br_f (by decide) (nm_e H)
/-- from the last place down to the program's end -/
theorem cf_hi (h1 : a1 1 = 4) (h2 : a1 2 = 0) (hx : x1 = 0 ∨ x1 = 1) (H : wX_analyse_53 post J x2 n x1 11 an fn pl a1 a2 a3 a4 a5 a6 a7 a8 a9 a10 a11 a12 a13 a14) : wX_analyse_53 post J x2 (n + 12) x1 23 an fn pl a1 a2 a3 a4 a5 a6 a7 a8 a9 a10 a11 a12 a13 a14 := by
  refine cf_53E (y := 22) (k := 2) (s := 0) (by decide) (cf_in (by decide)) (by decide) h2 (by decide) hx (by decide) ?_
  refine cf_53E (y := 21) (k := 2) (s := 0) (by decide) (cf_in (by decide)) (by decide) h2 (by decide) hx (by decide) ?_
  refine cf_53E (y := 20) (k := 2) (s := 0) (by decide) (cf_in (by decide)) (by decide) h2 (by decide) hx (by decide) ?_
  refine cf_53E (y := 19) (k := 2) (s := 0) (by decide) (cf_in (by decide)) (by decide) h2 (by decide) hx (by decide) ?_
  refine cf_53E (y := 18) (k := 2) (s := 0) (by decide) (cf_in (by decide)) (by decide) h2 (by decide) hx (by decide) ?_
  refine cf_53E (y := 17) (k := 2) (s := 0) (by decide) (cf_in (by decide)) (by decide) h2 (by decide) hx (by decide) ?_
  refine cf_53E (y := 16) (k := 2) (s := 0) (by decide) (cf_in (by decide)) (by decide) h2 (by decide) hx (by decide) ?_
  refine cf_53E (y := 15) (k := 2) (s := 0) (by decide) (cf_in (by decide)) (by decide) h2 (by decide) hx (by decide) ?_
  refine cf_53E (y := 14) (k := 1) (s := 4) (by decide) (cf_in (by decide)) (by decide) h1 (by decide) hx (by decide) ?_
  refine cf_53E (y := 13) (k := 1) (s := 4) (by decide) (cf_in (by decide)) (by decide) h1 (by decide) hx (by decide) ?_
  refine cf_53E (y := 12) (k := 1) (s := 4) (by decide) (cf_in (by decide)) (by decide) h1 (by decide) hx (by decide) ?_
  refine cf_53E (y := 11) (k := 1) (s := 4) (by decide) (cf_in (by decide)) (by decide) h1 (by decide) hx (by decide) ?_
  exact H
theorem cf_lo (h0 : a1 0 = 0) (hx : x1 = 0 ∨ x1 = 1) (H : J x1 (x2 + 1) an fn pl a1 a2 a3 a4 a5 a6 a7 a8 a9 a10 a11 a12 a13 a14) : wX_analyse_53 post J x2 (n + 9) x1 7 an fn pl a1 a2 a3 a4 a5 a6 a7 a8 a9 a10 a11 a12 a13 a14 := by
  refine cf_53E (y := 6) (k := 0) (s := 0) (by decide) (cf_in (by decide)) (by decide) h0 (by decide) hx (by decide) ?_
  refine cf_53E (y := 5) (k := 0) (s := 0) (by decide) (cf_in (by decide)) (by decide) h0 (by decide) hx (by decide) ?_
  refine cf_53E (y := 4) (k := 0) (s := 0) (by decide) (cf_in (by decide)) (by decide) h0 (by decide) hx (by decide) ?_
  refine cf_53E (y := 3) (k := 0) (s := 0) (by decide) (cf_in (by decide)) (by decide) h0 (by decide) hx (by decide) ?_
  refine cf_53E (y := 2) (k := 0) (s := 0) (by decide) (cf_in (by decide)) (by decide) h0 (by decide) hx (by decide) ?_
  refine cf_53E (y := 1) (k := 0) (s := 0) (by decide) (cf_in (by decide)) (by decide) h0 (by decide) hx (by decide) ?_
  refine cf_53E (y := 0) (k := 0) (s := 0) (by decide) (cf_in (by decide)) (by decide) h0 (by decide) hx (by decide) ?_
  refine cf_53E (y := -1) (k := 0) (s := 0) (by decide) (cf_in (by decide)) (by decide) h0 (by decide) hx (by decide) ?_
  exact br_t (by decide) (nm_e H)
/-- the first pass, over sets that are empty -/
theorem cf_pass0 {k c : Int32} (P : cf_P k c a1 a2 a3 a4 a5) (h6 : ∀ j, j < 27 → a6 j = 0) (H : ∀ b6 : Nat → Int32, b6 9 = 1 → b6 10 = 3 → b6 11 = 1 → b6 12 = 4 → J 1 (x2 + 1) an fn pl a1 a2 a3 a4 a5 b6 a7 a8 a9 a10 a11 a12 a13 a14) : wX_analyse_53 post J x2 25 0 23 an fn pl a1 a2 a3 a4 a5 a6 a7 a8 a9 a10 a11 a12 a13 a14 := by
  have P' := P
  obtain ⟨⟨p10, p11, p12⟩, -, -, -, -, -⟩ := P'
  refine cf_hi (n := 13) p11 p12 (Or.inl rfl) ?_
  refine cf_53N (n := 12) (p := 3) (v := 4) (y := 10) (k := 12) (by decide) (by decide) (by decide) (Or.inl rfl) (by decide) p11 (by decide) (cf_in (by decide)) (by decide) (by rw [h6 12 (by decide)]; decide) (fun Q h => cf_rb3 P h) ?_
  refine cf_53N (n := 11) (p := 2) (v := 1) (y := 9) (k := 11) (by decide) (by decide) (by decide) (Or.inr rfl) (by decide) p11 (by decide) (cf_in (by decide)) (by decide) (by rw [pk_un (by decide), h6 11 (by decide)]; decide) (fun Q h => cf_rb2 P pk_us h) ?_
  refine cf_53N (n := 10) (p := 1) (v := 3) (y := 8) (k := 10) (by decide) (by decide) (by decide) (Or.inr rfl) (by decide) p11 (by decide) (cf_in (by decide)) (by decide) (by rw [pk_un (by decide), pk_un (by decide), h6 10 (by decide)]; decide) (fun Q h => cf_rb1 P pk_us h) ?_
  refine cf_53N (n := 9) (p := 0) (v := 1) (y := 7) (k := 9) (by decide) (by decide) (by decide) (Or.inr rfl) (by decide) p11 (by decide) (cf_in (by decide)) (by decide) (by rw [pk_un (by decide), pk_un (by decide), pk_un (by decide), h6 9 (by decide)]; decide) (fun Q h => cf_rb0 P pk_us h) ?_
  exact cf_lo (n := 0) p10 (Or.inr rfl) (H _ rfl rfl rfl rfl)
/-- the second pass: nothing grows -/
theorem cf_pass1 {k c : Int32} (P : cf_P k c a1 a2 a3 a4 a5) (q9 : a6 9 = 1) (q10 : a6 10 = 3) (q11 : a6 11 = 1) (q12 : a6 12 = 4) (H : J 0 (x2 + 1) an fn pl a1 a2 a3 a4 a5 a6 a7 a8 a9 a10 a11 a12 a13 a14) : wX_analyse_53 post J x2 25 0 23 an fn pl a1 a2 a3 a4 a5 a6 a7 a8 a9 a10 a11 a12 a13 a14 := by
  have P' := P
  obtain ⟨⟨p10, p11, p12⟩, -, -, -, -, -⟩ := P'
  refine cf_hi (n := 13) p11 p12 (Or.inl rfl) ?_
  refine cf_53S (n := 12) (p := 3) (v := 4) (y := 10) (k := 12) (by decide) (by decide) (by decide) (Or.inl rfl) (by decide) p11 (by decide) (cf_in (by decide)) (by decide) q12.symm (fun Q h => cf_rb3 P h) ?_
  refine cf_53S (n := 11) (p := 2) (v := 1) (y := 9) (k := 11) (by decide) (by decide) (by decide) (Or.inl rfl) (by decide) p11 (by decide) (cf_in (by decide)) (by decide) q11.symm (fun Q h => cf_rb2 P q12 h) ?_
  refine cf_53S (n := 10) (p := 1) (v := 3) (y := 8) (k := 10) (by decide) (by decide) (by decide) (Or.inl rfl) (by decide) p11 (by decide) (cf_in (by decide)) (by decide) q10.symm (fun Q h => cf_rb1 P q11 h) ?_
  refine cf_53S (n := 9) (p := 0) (v := 1) (y := 7) (k := 9) (by decide) (by decide) (by decide) (Or.inl rfl) (by decide) p11 (by decide) (cf_in (by decide)) (by decide) q9.symm (fun Q h => cf_rb0 P q10 h) ?_
  exact cf_lo (n := 0) p10 (Or.inl rfl) H
theorem cf_38 {k c : Int32} (P : cf_P k c a1 a2 a3 a4 a5) (h6 : ∀ j, j < 27 → a6 j = 0) (H : ∀ b6 : Nat → Int32, b6 12 = 4 → post (an, fn, pl, a1, a2, a3, a4, a5, b6, a7, a8, a9, a10, a11, a12, a13, a14)) : ∃ fu, wX_analyse_38 post fu 1 0 an fn pl a1 a2 a3 a4 a5 a6 a7 a8 a9 a10 a11 a12 a13 a14 := by
  refine ⟨3, br_f (by decide) (br_f (by decide) ⟨25, cf_pass0 P h6 (fun b6 q9 q10 q11 q12 => ?_)⟩)⟩
  refine br_f (by decide) (br_f (by decide) ⟨25, cf_pass1 P q9 q10 q11 q12 ?_⟩)
  exact br_f (by decide) (br_t rfl (H b6 q12))
theorem cf_15 (H : ∀ b6 : Nat → Int32, (∀ j, j < 27 → b6 j = 0) → ∃ fu, wX_analyse_38 post fu 1 0 an fn pl a1 a2 a3 a4 a5 b6 a7 a8 a9 a10 a11 a12 a13 a14) : ∃ fu, wX_analyse_15 post an fn pl fu 0 a1 a2 a3 a4 a5 a6 a7 a8 a9 a10 a11 a12 a13 a14 :=
  pk_loop (fun n i s => wX_analyse_15 post an fn pl n (nI i) a1 a2 a3 a4 a5 s a7 a8 a9 a10 a11 a12 a13 a14) (fun i s => ∀ j, j < i → s j = 0) 27 0 a6 (by omega) (fun j hj => absurd hj (by omega))
    (fun n s h => pk_le 27 27 (fun _ => H s h) (fun z => absurd z (by omega)))
    (fun n i s hi h hw => pk_le 27 i (fun z => absurd z (by omega)) (fun _ => ⟨pk_in i 27 hi, nm_e (nm_r (nI_1 i) (hw _ (cf_fill (nI_clamp (by omega)) h)))⟩))
theorem cf_an0 {k c : Int32} (P : cf_P k c a1 a2 a3 a4 a5) (H : ∀ b6 : Nat → Int32, b6 12 = 4 → post (1, fn, pl, a1, a2, a3, a4, a5, b6, a7, a8, a9, a10, a11, a12, a13, a14)) : wpX_analyse post (0, fn, pl, a1, a2, a3, a4, a5, a6, a7, a8, a9, a10, a11, a12, a13, a14) :=
  br_t rfl (cf_15 (fun b6 h6 => cf_38 P h6 H))
theorem cf_an1 (H : post (1, fn, pl, a1, a2, a3, a4, a5, a6, a7, a8, a9, a10, a11, a12, a13, a14)) : wpX_analyse post (1, fn, pl, a1, a2, a3, a4, a5, a6, a7, a8, a9, a10, a11, a12, a13, a14) := br_f (by decide) H
end
end
section
section
variable {an fn pl : Int32} {a1 a2 a3 a4 a5 a6 a7 a8 a9 a10 a11 a12 a13 a14 : Nat → Int32} {post : St2 → Prop} {d x3 : Int32}
theorem cf_29 (H : ∀ b : Nat → Int32, wX_unpack_29 post x3 an fn pl 1 4 a1 a2 a3 a4 a5 a6 a7 a8 a9 a10 a11 a12 a13 b) : ∃ fu, wX_unpack_29 post x3 an fn pl fu 0 a1 a2 a3 a4 a5 a6 a7 a8 a9 a10 a11 a12 a13 a14 := by
  refine ⟨5, ?_⟩
  refine br_f (by decide) ⟨cf_in (by decide), nm_e (nm_r (e' := 1) (by decide) ?_)⟩
  refine br_f (by decide) ⟨cf_in (by decide), nm_e (nm_r (e' := 2) (by decide) ?_)⟩
  refine br_f (by decide) ⟨cf_in (by decide), nm_e (nm_r (e' := 3) (by decide) ?_)⟩
  refine br_f (by decide) ⟨cf_in (by decide), nm_e (nm_r (e' := 4) (by decide) ?_)⟩
  exact H _
/-- a frame that has not begun -/
theorem cf_upA {x : Int32} (h11 : a11 12 = 1) (h12 : a12 12 = -1) (h13 : a13 48 = x) (hd : d = 0) (H : ∀ b : Nat → Int32, b 0 = x → post (an, 1, -1, a1, a2, a3, a4, a5, a6, a7, a8, a9, a10, a11, a12, a13, b)) : wpX_unpack post (an, fn, pl, a1, a2, a3, a4, a5, a6, a7, a8, a9, a10, a11, a12, a13, a14) 3 d := by
  subst hd
  refine nm_r (e' := 12) (by decide) ⟨cf_in (by decide), nm_r (e' := 1) h11 ⟨cf_in (by decide), nm_r (e' := -1) h12 (cf_29 (fun b => ?_))⟩⟩
  refine br_t (by decide) (br_f (by decide) ⟨cf_in (by decide), nm_e (H _ ?_)⟩)
  rw [pk_us]
  exact h13
/-- a frame that waits at the YIELD: nothing is kept -/
theorem cf_upB {k c : Int32} (P : cf_P k c a1 a2 a3 a4 a5) (h6 : a6 12 = 4) (h11 : a11 12 = 1) (h12 : a12 12 = 2) (hd : d = 0) (H : ∀ b : Nat → Int32, post (an, 1, 2, a1, a2, a3, a4, a5, a6, a7, a8, a9, a10, a11, a12, a13, b)) : wpX_unpack post (an, fn, pl, a1, a2, a3, a4, a5, a6, a7, a8, a9, a10, a11, a12, a13, a14) 3 d := by
  subst hd
  refine nm_r (e' := 12) (by decide) ⟨cf_in (by decide), nm_r (e' := 1) h11 ⟨cf_in (by decide), nm_r (e' := 2) h12 (cf_29 (fun b => ?_))⟩⟩
  refine br_t (by decide) (br_t (by decide) (cf_kept P h6 ⟨5, ?_⟩))
  refine br_f (by decide) (br_f (by decide) (nm_r (e' := 1) (by decide) ?_))
  refine br_f (by decide) (br_f (by decide) (nm_r (e' := 2) (by decide) ?_))
  refine br_f (by decide) (br_f (by decide) (nm_r (e' := 3) (by decide) ?_))
  refine br_f (by decide) (br_f (by decide) (nm_r (e' := 4) (by decide) ?_))
  exact br_t (by decide) (H _)
theorem cf_pack {k c : Int32} (P : cf_P k c a1 a2 a3 a4 a5) (h6 : a6 12 = 4) (hd : d = 0) (H : post (an, 1, 2, a1, a2, a3, a4, a5, a6, a7, a8, a9, a10, upd a11 12 1, upd a12 12 2, a13, a14)) : wpX_pack post (an, 1, 2, a1, a2, a3, a4, a5, a6, a7, a8, a9, a10, a11, a12, a13, a14) 3 d := by
  subst hd
  refine nm_r (e' := 12) (by decide) ⟨cf_in (by decide), nm_e ⟨cf_in (by decide), nm_e (cf_kept P h6 ⟨5, ?_⟩)⟩⟩
  refine br_f (by decide) (br_f (by decide) (nm_r (e' := 1) (by decide) ?_))
  refine br_f (by decide) (br_f (by decide) (nm_r (e' := 2) (by decide) ?_))
  refine br_f (by decide) (br_f (by decide) (nm_r (e' := 3) (by decide) ?_))
  refine br_f (by decide) (br_f (by decide) (nm_r (e' := 4) (by decide) ?_))
  exact br_t (by decide) H
/-- the four instructions -/
theorem cf_pf0 {k c : Int32} (P : cf_P k c a1 a2 a3 a4 a5) (H : post (an, 1, 1, a1, a2, a3, a4, a5, a6, a7, a8, a9, a10, a11, a12, a13, upd a14 1 c)) : wpX_perform post (an, 1, 0, a1, a2, a3, a4, a5, a6, a7, a8, a9, a10, a11, a12, a13, a14) 3 := by
  obtain ⟨-, ⟨p2, -, -, -⟩, ⟨p3, -, -, -⟩, ⟨p4, -, -, -⟩, p5, -⟩ := P
  refine nm_r (e' := 8) (by decide) ⟨cf_in (by decide), nm_r (e' := 1) p3 ⟨cf_in (by decide), nm_r (e' := 0) p4 ⟨cf_in (by decide), nm_r (e' := 0) p2 (br_f (by decide) (br_f (by decide) (br_t rfl ⟨cf_in (by decide), cf_in (by decide), ?_⟩)))⟩⟩⟩
  rw [show a5 (8 : Int32).toNatClampNeg = c from p5]
  exact nm_e (nm_r (e' := 1) (by decide) H)
theorem cf_pf1 {k c z : Int32} (P : cf_P k c a1 a2 a3 a4 a5) (hz : (k = 1 ∧ z = a14 0 + a14 1) ∨ (k = 2 ∧ z = a14 0 - a14 1)) (H : post (an, 1, 2, a1, a2, a3, a4, a5, a6, a7, a8, a9, a10, a11, a12, a13, upd a14 0 z)) : wpX_perform post (an, 1, 1, a1, a2, a3, a4, a5, a6, a7, a8, a9, a10, a11, a12, a13, a14) 3 := by
  obtain ⟨-, ⟨-, p2, -, -⟩, ⟨-, p3, -, -⟩, ⟨-, p4, -, -⟩, -, -⟩ := P
  refine nm_r (e' := 9) (by decide) ⟨cf_in (by decide), nm_r (e' := 0) p3 ⟨cf_in (by decide), nm_r (e' := 1) p4 ⟨cf_in (by decide), nm_r (e' := k) p2 ?_⟩⟩⟩
  rcases hz with ⟨rfl, rfl⟩ | ⟨rfl, rfl⟩
  · exact br_f (by decide) (br_f (by decide) (br_f (by decide) (br_t rfl ⟨cf_in (by decide), cf_in (by decide), cf_in (by decide), nm_e (nm_r (e' := 2) (by decide) H)⟩)))
  · exact br_f (by decide) (br_f (by decide) (br_f (by decide) (br_f (by decide) (br_t rfl ⟨cf_in (by decide), cf_in (by decide), cf_in (by decide), nm_e (nm_r (e' := 2) (by decide) H)⟩))))
theorem cf_pf2 {k c : Int32} (P : cf_P k c a1 a2 a3 a4 a5) (h6 : a6 12 = 4) (h10 : a10 3 = 1) (H : post (an, 1, 2, a1, a2, a3, a4, a5, a6, upd a7 3 2, upd a8 3 (a14 0), a9, a10, upd a11 12 1, upd a12 12 2, a13, a14)) : wpX_perform post (an, 1, 2, a1, a2, a3, a4, a5, a6, a7, a8, a9, a10, a11, a12, a13, a14) 3 := by
  have P' := P
  obtain ⟨-, ⟨-, -, p2, -⟩, ⟨-, -, p3, -⟩, ⟨-, -, p4, -⟩, -, -⟩ := P'
  refine nm_r (e' := 10) (by decide) ⟨cf_in (by decide), nm_r (e' := 0) p3 ⟨cf_in (by decide), nm_r (e' := 2) p4 ⟨cf_in (by decide), nm_r (e' := 5) p2 ?_⟩⟩⟩
  refine br_f (by decide) (br_f (by decide) (br_f (by decide) (br_f (by decide) (br_f (by decide) (br_f (by decide) (br_f (by decide) (br_t rfl ⟨cf_in (by decide), nm_e ⟨cf_in (by decide), cf_in (by decide), nm_e ⟨cf_in (by decide), ?_⟩⟩⟩)))))))
  refine cf_pack P h6 ?_ H
  rw [show a10 (3 : Int32).toNatClampNeg = 1 from h10]
  decide
theorem cf_pf3 {k c : Int32} (P : cf_P k c a1 a2 a3 a4 a5) (h10 : a10 3 = 1) (H : ∀ b10 : Nat → Int32, b10 3 = 0 → post (an, 1, 3, a1, a2, a3, a4, a5, a6, upd a7 3 3, upd a8 3 (a14 2), a9, b10, a11, a12, a13, a14)) : wpX_perform post (an, 1, 3, a1, a2, a3, a4, a5, a6, a7, a8, a9, a10, a11, a12, a13, a14) 3 := by
  obtain ⟨-, ⟨-, -, -, p2⟩, ⟨-, -, -, p3⟩, ⟨-, -, -, p4⟩, -, -⟩ := P
  refine nm_r (e' := 11) (by decide) ⟨cf_in (by decide), nm_r (e' := 2) p3 ⟨cf_in (by decide), nm_r (e' := 0) p4 ⟨cf_in (by decide), nm_r (e' := 7) p2 (br_f (by decide) (br_t (by decide) ⟨cf_in (by decide), ?_⟩))⟩⟩⟩
  refine ⟨cf_in (by decide), cf_in (by decide), nm_e ⟨cf_in (by decide), br_t ?_ ?_⟩⟩
  · rw [pk_us, show a10 (3 : Int32).toNatClampNeg = 1 from h10]
    decide
  · exact ⟨cf_in (by decide), nm_e ⟨cf_in (by decide), nm_e ⟨cf_in (by decide), nm_e (H _ pk_us)⟩⟩⟩
/-- nothing at its end: another state, or a place in the program -/
theorem cf_reS (h : ¬ a7 3 = 5) (H : post (an, fn, pl, a1, a2, a3, a4, a5, a6, a7, a8, a9, a10, a11, a12, a13, a14)) : wpX_returnAtEnd post (an, fn, pl, a1, a2, a3, a4, a5, a6, a7, a8, a9, a10, a11, a12, a13, a14) 3 := ⟨1, br_f (by decide) ⟨cf_in (by decide), br_f h H⟩⟩
theorem cf_reP (h1 : a1 1 = 4) (h7 : a7 3 = 5) (hp0 : ¬ pl < 0) (hp : pl < 4) (H : post (an, 1, pl, a1, a2, a3, a4, a5, a6, a7, a8, a9, a10, a11, a12, a13, a14)) : wpX_returnAtEnd post (an, 1, pl, a1, a2, a3, a4, a5, a6, a7, a8, a9, a10, a11, a12, a13, a14) 3 :=
  ⟨1, br_f (by decide) ⟨cf_in (by decide), br_t h7 (br_f hp0 ⟨cf_in (by decide), br_t (cf_lt h1 hp) (br_t rfl H)⟩)⟩⟩
end
end
section
section
variable {an fn pl : Int32} {a1 a2 a3 a4 a5 a6 a7 a8 a9 a10 a11 a12 a13 a14 : Nat → Int32} {k c x v z : Int32}
/-- from the program's begin to its YIELD -/
theorem cf_co1 {post : St2 → Prop} (P : cf_P k c a1 a2 a3 a4 a5) (h6 : a6 12 = 4) (h10 : a10 3 = 1) (h14 : a14 0 = x) (hz : (k = 1 ∧ z = x + c) ∨ (k = 2 ∧ z = x - c))
    (H : ∀ b7 b8 b9 b11 b12 b14 : Nat → Int32, b7 3 = 2 → b8 3 = z → b9 3 = 3 → b11 12 = 1 → b12 12 = 2 → post (an, 1, 2, a1, a2, a3, a4, a5, a6, b7, b8, b9, a10, b11, b12, a13, b14)) :
    wpX_carryOn post (an, 1, 0, a1, a2, a3, a4, a5, a6, a7, a8, a9, a10, a11, a12, a13, a14) 3 := by
  have P' := P
  obtain ⟨⟨-, p1, -⟩, -, -, -, -, -⟩ := P'
  refine ⟨cf_in (by decide), nm_e ⟨cf_in (by decide), nm_e (cf_reP p1 rfl (by decide) (by decide) ⟨4, ?_⟩)⟩⟩
  refine br_f (by decide) ⟨cf_in (by decide), br_t rfl (cf_pf0 P (nm_r (e' := 1) (by decide) (cf_reP p1 rfl (by decide) (by decide) ?_)))⟩
  refine br_f (by decide) ⟨cf_in (by decide), br_t rfl (cf_pf1 (z := z) P ?_ (nm_r (e' := 2) (by decide) (cf_reP p1 rfl (by decide) (by decide) ?_)))⟩
  · rw [pk_us, pk_un (by decide), h14]
    exact hz
  refine br_f (by decide) ⟨cf_in (by decide), br_t rfl (cf_pf2 P h6 h10 (nm_r (e' := 3) (by decide) (cf_reS (by rw [pk_us]; decide) ?_)))⟩
  refine br_f (by decide) ⟨cf_in (by decide), br_f (by rw [show (3 : Int32).toNatClampNeg = 3 by decide, pk_us]; decide) ?_⟩
  refine ⟨cf_in (by decide), br_f (by rw [show (3 : Int32).toNatClampNeg = 3 by decide, pk_us]; decide) ⟨cf_in (by decide), nm_e ?_⟩⟩
  exact H _ _ _ _ _ _ rfl rfl rfl rfl rfl
/-- from the YIELD to the end -/
theorem cf_co2 {post : St2 → Prop} (P : cf_P k c a1 a2 a3 a4 a5) (h10 : a10 3 = 1) (h14 : a14 2 = v)
    (H : ∀ b7 b8 b9 b10 : Nat → Int32, b7 3 = 3 → b8 3 = v → b10 3 = 0 → post (an, 1, 3, a1, a2, a3, a4, a5, a6, b7, b8, b9, b10, a11, a12, a13, a14)) :
    wpX_carryOn post (an, 1, 3, a1, a2, a3, a4, a5, a6, a7, a8, a9, a10, a11, a12, a13, a14) 3 := by
  have P' := P
  obtain ⟨⟨-, p1, -⟩, -, -, -, -, -⟩ := P'
  refine ⟨cf_in (by decide), nm_e ⟨cf_in (by decide), nm_e (cf_reP p1 rfl (by decide) (by decide) ⟨2, ?_⟩)⟩⟩
  refine br_f (by decide) ⟨cf_in (by decide), br_t rfl (cf_pf3 P h10 (fun b10 q10 => nm_r (e' := 1) (by decide) (cf_reS (by rw [pk_us]; decide) ?_)))⟩
  refine br_f (by decide) ⟨cf_in (by decide), br_f (by rw [show (3 : Int32).toNatClampNeg = 3 by decide, pk_us]; decide) ?_⟩
  refine ⟨cf_in (by decide), br_f (by rw [show (3 : Int32).toNatClampNeg = 3 by decide, pk_us]; decide) ⟨cf_in (by decide), nm_e ?_⟩⟩
  exact H _ _ _ b10 rfl (pk_us.trans h14) q10
theorem cf_res1 {post : Int32 → St2 → Prop} (P : cf_P k c a1 a2 a3 a4 a5) (h7 : a7 3 = 1) (h10 : a10 3 = 1) (h11 : a11 12 = 1) (h12 : a12 12 = -1) (h13 : a13 48 = x) (hz : (k = 1 ∧ z = x + c) ∨ (k = 2 ∧ z = x - c))
    (H : ∀ b6 b7 b8 b9 b11 b12 b14 : Nat → Int32, b6 12 = 4 → b7 3 = 2 → b8 3 = z → b9 3 = 3 → b11 12 = 1 → b12 12 = 2 → post 2 (1, 1, 2, a1, a2, a3, a4, a5, b6, b7, b8, b9, a10, b11, b12, a13, b14)) :
    wpX_resume post (0, fn, pl, a1, a2, a3, a4, a5, a6, a7, a8, a9, a10, a11, a12, a13, a14) 3 v := by
  unfold wpX_resume
  dsimp only
  refine cf_bad ?_
  refine br_t rfl ⟨cf_in (by decide), br_t h7 ?_⟩
  unfold wX_resume_32 wpX_goOn
  dsimp only
  refine cf_an0 P (fun b6 q6 => ?_)
  dsimp only
  refine ⟨cf_in (by decide), cf_upA h11 h12 h13 (by rw [show a10 (3 : Int32).toNatClampNeg = 1 from h10]; decide) (fun b hb => ?_)⟩
  dsimp only
  refine ⟨cf_in (by decide), br_f (by rw [show a7 (3 : Int32).toNatClampNeg = 1 from h7]; decide) ?_⟩
  unfold wX_goOn_50
  refine nm_r (e' := 0) (by decide) (cf_co1 P q6 h10 hb hz (fun b7 b8 b9 b11 b12 b14 q7 q8 q9 q11 q12 => ⟨cf_in (by decide), ?_⟩))
  rw [show b7 (3 : Int32).toNatClampNeg = 2 from q7]
  exact H b6 b7 b8 b9 b11 b12 b14 q6 q7 q8 q9 q11 q12
theorem cf_res2 {post : Int32 → St2 → Prop} (P : cf_P k c a1 a2 a3 a4 a5) (h6 : a6 12 = 4) (h7 : a7 3 = 2) (h10 : a10 3 = 1) (h11 : a11 12 = 1) (h12 : a12 12 = 2)
    (H : ∀ b7 b8 b9 b10 b14 : Nat → Int32, b7 3 = 3 → b8 3 = v → b10 3 = 0 → post 3 (1, 1, 3, a1, a2, a3, a4, a5, a6, b7, b8, b9, b10, a11, a12, a13, b14)) :
    wpX_resume post (1, fn, pl, a1, a2, a3, a4, a5, a6, a7, a8, a9, a10, a11, a12, a13, a14) 3 v := by
  have P' := P
  obtain ⟨-, -, -, ⟨-, -, p4, -⟩, -, -⟩ := P'
  unfold wpX_resume
  dsimp only
  refine cf_bad ?_
  refine br_t rfl ⟨cf_in (by decide), br_f (by rw [show a7 (3 : Int32).toNatClampNeg = 2 from h7]; decide) ⟨cf_in (by decide), br_t h7 ?_⟩⟩
  unfold wX_resume_32 wpX_goOn
  dsimp only
  refine cf_an1 ?_
  dsimp only
  refine ⟨cf_in (by decide), cf_upB P h6 h11 h12 (by rw [show a10 (3 : Int32).toNatClampNeg = 1 from h10]; decide) (fun b => ?_)⟩
  dsimp only
  refine ⟨cf_in (by decide), br_t h7 ⟨cf_in (by decide), ?_⟩⟩
  rw [show a4 ((1 : Int32) * 8 + 2).toNatClampNeg = 2 from p4]
  refine ⟨cf_in (by decide), nm_e ?_⟩
  unfold wX_goOn_50
  refine nm_r (e' := 3) (by decide) (cf_co2 (v := v) P h10 rfl (fun b7 b8 b9 b10 q7 q8 q10 => ⟨cf_in (by decide), ?_⟩))
  rw [show b7 (3 : Int32).toNatClampNeg = 3 from q7]
  exact H b7 b8 b9 b10 _ q7 q8 q10
end
end
section
section
variable {an fn pl : Int32} {a1 a2 a3 a4 a5 a6 a7 a8 a9 a10 a11 a12 a13 a14 : Nat → Int32} {k c x v z x5 : Int32} {post : Int32 → St0 → Prop} {mc ms kc ks : Nat}
theorem cf_97 (P : cf_P k c a1 a2 a3 a4 a5) (h7 : a7 3 = 1) (h10 : a10 3 = 1) (h11 : a11 12 = 1) (h12 : a12 12 = -1) (h13 : a13 48 = x) (hz : (k = 1 ∧ z = x + c) ∨ (k = 2 ∧ z = x - c)) (H : post 1 ()) : wL_lawOf_97 post mc ms v z kc ks 0 fn pl a1 a2 a3 a4 a5 a6 a7 a8 a9 a10 a11 a12 a13 a14 := by
  unfold wL_lawOf_97
  refine cf_res1 P h7 h10 h11 h12 h13 hz (fun b6 b7 b8 b9 b11 b12 b14 q6 q7 q8 q9 q11 q12 => br_t rfl ?_)
  unfold wpX_value
  refine cf_bad (br_t rfl ⟨cf_in (by decide), br_t q8 ?_⟩)
  unfold wpX_steps
  refine cf_bad (br_t rfl ⟨cf_in (by decide), br_t q9 ?_⟩)
  refine cf_res2 (v := v) P q6 q7 h10 q11 q12 (fun d7 d8 d9 d10 d14 r7 r8 r10 => br_t rfl ?_)
  refine cf_bad (br_t rfl ⟨cf_in (by decide), br_t r8 ?_⟩)
  unfold wpX_depth
  exact cf_bad (br_t rfl ⟨cf_in (by decide), br_t r10 H⟩)
theorem cf_20 (hx : x5 = 0 ∨ x5 = 1) (H : post 1 ()) : wL_lawOf_20 post mc ms x c v x5 kc ks 0 0 0 (fun _ => 0) (fun _ => 0) (fun _ => 0) (fun _ => 0) (fun _ => 0) (fun _ => 0) (fun _ => 0) (fun _ => 0) (fun _ => 0) (fun _ => 0) (fun _ => 0) (fun _ => 0) (fun _ => 0) (fun _ => 0) := by
  unfold wL_lawOf_20
  refine cf_emit (s := 0) (i := 8) (k := 8) (fun j _ => rfl) (by decide) (by decide) rfl (by decide) (by decide) (cf_in (by decide)) (by decide) (fun _ => ?_)
  rcases hx with rfl | rfl
  · refine br_t rfl ?_
    unfold wL_lawOf_45
    refine cf_emit (s := 1) (i := 9) (k := 9) (fun j _ => rfl) (by decide) (by decide) rfl (by decide) (by decide) (cf_in (by decide)) (by decide) (fun _ => ?_)
    refine cf_emit (s := 2) (i := 10) (k := 10) (fun j _ => rfl) (by decide) (by decide) rfl (by decide) (by decide) (cf_in (by decide)) (by decide) (fun _ => ?_)
    refine cf_emit (s := 3) (i := 11) (k := 11) (fun j _ => rfl) (by decide) (by decide) rfl (by decide) (by decide) (cf_in (by decide)) (by decide) (fun _ => ?_)
    refine cf_start (fun _ => br_t rfl ?_)
    exact cf_97 (k := 2) (c := c) (x := x) ⟨⟨rfl, rfl, rfl⟩, ⟨rfl, rfl, rfl, rfl⟩, ⟨rfl, rfl, rfl, rfl⟩, ⟨rfl, rfl, rfl, rfl⟩, rfl, Or.inr rfl⟩ rfl rfl rfl rfl rfl (Or.inr ⟨rfl, rfl⟩) H
  · refine br_f (by decide) ?_
    unfold wL_lawOf_45
    refine cf_emit (s := 1) (i := 9) (k := 9) (fun j _ => rfl) (by decide) (by decide) rfl (by decide) (by decide) (cf_in (by decide)) (by decide) (fun _ => ?_)
    refine cf_emit (s := 2) (i := 10) (k := 10) (fun j _ => rfl) (by decide) (by decide) rfl (by decide) (by decide) (cf_in (by decide)) (by decide) (fun _ => ?_)
    refine cf_emit (s := 3) (i := 11) (k := 11) (fun j _ => rfl) (by decide) (by decide) rfl (by decide) (by decide) (cf_in (by decide)) (by decide) (fun _ => ?_)
    refine cf_start (fun _ => br_f (by decide) ?_)
    exact cf_97 (k := 1) (c := c) (x := x) ⟨⟨rfl, rfl, rfl⟩, ⟨rfl, rfl, rfl, rfl⟩, ⟨rfl, rfl, rfl, rfl⟩, ⟨rfl, rfl, rfl, rfl⟩, rfl, Or.inl rfl⟩ rfl rfl rfl rfl rfl (Or.inl ⟨rfl, rfl⟩) H
end
theorem cf_cell {post : Int32 → Prop} {L k : Nat} {xs : Nat → Int32} {u : St0} {p : Int32} (hL : L ≤ 4) (hk : k < 4) (hp : p = nI k) (H : ∀ r, post r) : wpL_cellAt post L xs u p := by
  subst hp
  exact pk_le L k (fun _ => H 0) (fun z => ⟨pk_in k L (by omega), H _⟩)
theorem cf_lawOf {x c v w : Int32} {post : Int32 → St0 → Prop} (H : post 1 ()) : wpL_lawOf post 160 2560 () x c v w := by
  refine ⟨by decide, by decide, 14, 242, by decide, by decide, ?_⟩
  refine ⟨by decide, by decide, by decide, by decide, by decide, by decide, by decide, by decide, by decide, by decide, by decide, by decide, by decide, by decide, by decide, by decide, by decide, by decide, by decide, by decide, by decide, by decide, by decide, by decide, by decide, by decide, by decide, by decide, ?_⟩
  exact br_c (fun _ => cf_20 (Or.inr rfl) H) (fun _ => cf_20 (Or.inl rfl) H)
end
section
theorem i_vc (xs : Nat → Int32) (L : Nat) (hL : L ≤ 4) : wpL_law (fun r => r = 1) L xs := by
  unfold wpL_law
  refine cf_cell (k := 0) hL (by decide) rfl (fun x => ?_)
  refine cf_cell (k := 1) hL (by decide) rfl (fun c => ?_)
  refine cf_cell (k := 2) hL (by decide) rfl (fun v => ?_)
  refine cf_cell (k := 3) hL (by decide) rfl (fun w => ?_)
  exact ⟨160, 2560, by decide, by decide, cf_lawOf rfl⟩
end
