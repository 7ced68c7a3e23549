section
theorem qh_in {x : Int32} {n : Nat} {A : Prop} (h : 0 ≤ x.toInt ∧ x.toInt < n) (a : A) : vp_in x n ∧ A := ⟨vp_in_iff.mpr h, a⟩
theorem qh_up {a : Nat → Int32} {i : Int32} {k : Nat} {x v : Int32} (hk : i.toNatClampNeg = k) (hv : x = v) : upd a i.toNatClampNeg x = upd a k v := by
  rw [hk, hv]
theorem qh_v2 {P : Int32 → St2 → Prop} {a b : Int32} {s : St2} (e : a = b) (h : P b s) : P a s := by
  rw [e]; exact h
theorem qh_digT {post : Int32 → Prop} {t : Nat} (ht : t < 10) (h : post 1) : wpX_isDigit post () (nI (48 + t)) := by
  unfold wpX_isDigit
  exact br_f (nI_nlt (a := 48 + t) (b := 48) (by omega) (by omega)) (br_f (nI_nlt (a := 57) (b := 48 + t) (by omega) (by omega)) h)
theorem qh_vnT {t : Nat} (ht : t < 10) : vp_nar .char (nI (48 + t)) = nI (48 + t) := by
  unfold vp_nar
  rw [(pk_charN (q := 48 + t) (by omega)).1]
theorem qh_peek {sz at_ wr de no tr wa ins bl re le hd tl ru so : Int32} {a1 a2 a3 a4 a5 a6 a7 a8 a9 a10 a11 a12 a13 : Nat → Int32} {post : Int32 → Prop} {k q : Nat} {c : Int32} (h1 : ¬ sz ≤ at_) (h2 : at_ = nI k) (h3 : k < 80) (hv : a1 k = c) (hc : c = nI q) (hq : q < 65536) (h : post c) : wpX_peek post (sz, at_, wr, de, no, tr, wa, ins, bl, re, le, hd, tl, ru, so, a1, a2, a3, a4, a5, a6, a7, a8, a9, a10, a11, a12, a13) := by
  have e : a1 at_.toNatClampNeg = c := by rw [h2, nI_clamp (by omega)]; exact hv
  unfold wpX_peek
  dsimp only
  rw [e]
  exact br_f h1 ⟨by rw [h2]; exact vp_in_nI h3 (by omega), by rw [hc]; exact (pk_charN hq).1, h⟩
end
section
theorem qc_1 {post : Int32 → Prop} {y0 : Int32} (e0 : y0 = 35) (h : post 0) : wpX_isDigit post () y0 := by
  subst e0
  unfold wpX_isDigit
  refine br_t (by decide +kernel) ?_
  exact h
theorem qc_2 {post : Int32 → Prop} {y0 : Int32} (e0 : y0 = 35) (h : post 0) : wpX_isLetter post () y0 := by
  subst e0
  unfold wpX_isLetter
  refine br_t (by decide +kernel) ?_
  exact h
theorem qc_3 {post : Int32 → Prop} {y0 : Int32} (e0 : y0 = 35) (h : post 1) : wpX_isSign post () y0 := by
  subst e0
  unfold wpX_isSign
  refine br_t (by decide +kernel) ?_
  exact h
def qa_1_1 : Nat → Int32 := upd (fun _ => 0) 0 35
theorem qc_4 {va : Nat → Int32} {post : Int32 → St2 → Prop} {y0 : Int32} (e0 : y0 = 35) (h : post 1 (1, 0, 0, 0, 0, 0, 0, 0, 0, 0, 0, 0, 0, 0, 0, qa_1_1, (fun _ => 0), (fun _ => 0), (fun _ => 0), (fun _ => 0), (fun _ => 0), (fun _ => 0), (fun _ => 0), (fun _ => 0), (fun _ => 0), (fun _ => 0), (fun _ => 0), va)) : wpX_feed post (0, 0, 0, 0, 0, 0, 0, 0, 0, 0, 0, 0, 0, 0, 0, (fun _ => 0), (fun _ => 0), (fun _ => 0), (fun _ => 0), (fun _ => 0), (fun _ => 0), (fun _ => 0), (fun _ => 0), (fun _ => 0), (fun _ => 0), (fun _ => 0), (fun _ => 0), va) y0 := by
  subst e0
  unfold wpX_feed
  dsimp only
  refine qc_1 (by decide +kernel) ?_
  refine br_t (by decide +kernel) ?_
  refine qc_2 (by decide +kernel) ?_
  refine br_t (by decide +kernel) ?_
  refine qc_3 (by decide +kernel) ?_
  refine br_f (by decide +kernel) ?_
  refine br_t (by decide +kernel) ?_
  refine qh_in (by decide +kernel) ?_
  refine nm_r (e' := qa_1_1) (qh_up (by decide +kernel) (by decide +kernel)) ?_
  refine nm_r (e' := (1 : Int32)) (by decide +kernel) ?_
  exact h
def qa_1_2 (t : Nat) : Nat → Int32 := upd qa_1_1 1 (nI (48 + t))
theorem qc_5 {t : Nat} {va : Nat → Int32} {post : Int32 → St2 → Prop} {y0 : Int32} (ht : t < 10) (e0 : y0 = (nI (48 + t))) (h : post 2 (2, 0, 0, 0, 0, 0, 0, 0, 0, 0, 0, 0, 0, 0, 0, (qa_1_2 t), (fun _ => 0), (fun _ => 0), (fun _ => 0), (fun _ => 0), (fun _ => 0), (fun _ => 0), (fun _ => 0), (fun _ => 0), (fun _ => 0), (fun _ => 0), (fun _ => 0), va)) : wpX_feed post (1, 0, 0, 0, 0, 0, 0, 0, 0, 0, 0, 0, 0, 0, 0, qa_1_1, (fun _ => 0), (fun _ => 0), (fun _ => 0), (fun _ => 0), (fun _ => 0), (fun _ => 0), (fun _ => 0), (fun _ => 0), (fun _ => 0), (fun _ => 0), (fun _ => 0), va) y0 := by
  subst e0
  unfold wpX_feed
  dsimp only
  refine qh_digT ht ?_
  refine br_f (by decide +kernel) ?_
  refine br_f (by decide +kernel) ?_
  refine br_f (by decide +kernel) ?_
  refine br_t (by decide +kernel) ?_
  refine qh_in (by decide +kernel) ?_
  refine nm_r (e' := (qa_1_2 t)) (qh_up (by decide +kernel) (qh_vnT ht)) ?_
  refine nm_r (e' := (2 : Int32)) (by decide +kernel) ?_
  exact h
theorem qc_6 {post : Int32 → Prop} {y0 : Int32} (e0 : y0 = 123) (h : post 0) : wpX_isDigit post () y0 := by
  subst e0
  unfold wpX_isDigit
  refine br_f (by decide +kernel) ?_
  refine br_t (by decide +kernel) ?_
  exact h
theorem qc_7 {post : Int32 → Prop} {y0 : Int32} (e0 : y0 = 123) (h : post 0) : wpX_isLetter post () y0 := by
  subst e0
  unfold wpX_isLetter
  refine br_f (by decide +kernel) ?_
  refine br_t (by decide +kernel) ?_
  exact h
theorem qc_8 {post : Int32 → Prop} {y0 : Int32} (e0 : y0 = 123) (h : post 1) : wpX_isSign post () y0 := by
  subst e0
  unfold wpX_isSign
  refine br_f (by decide +kernel) ?_
  refine br_f (by decide +kernel) ?_
  refine br_f (by decide +kernel) ?_
  refine br_f (by decide +kernel) ?_
  refine br_f (by decide +kernel) ?_
  refine br_f (by decide +kernel) ?_
  refine br_f (by decide +kernel) ?_
  refine br_f (by decide +kernel) ?_
  refine br_f (by decide +kernel) ?_
  refine br_f (by decide +kernel) ?_
  refine br_f (by decide +kernel) ?_
  refine br_t (by decide +kernel) ?_
  exact h
def qa_1_3 (t : Nat) : Nat → Int32 := upd (qa_1_2 t) 2 123
theorem qc_9 {t : Nat} {va : Nat → Int32} {post : Int32 → St2 → Prop} {y0 : Int32} (e0 : y0 = 123) (h : post 3 (3, 0, 0, 0, 0, 0, 0, 0, 0, 0, 0, 0, 0, 0, 0, (qa_1_3 t), (fun _ => 0), (fun _ => 0), (fun _ => 0), (fun _ => 0), (fun _ => 0), (fun _ => 0), (fun _ => 0), (fun _ => 0), (fun _ => 0), (fun _ => 0), (fun _ => 0), va)) : wpX_feed post (2, 0, 0, 0, 0, 0, 0, 0, 0, 0, 0, 0, 0, 0, 0, (qa_1_2 t), (fun _ => 0), (fun _ => 0), (fun _ => 0), (fun _ => 0), (fun _ => 0), (fun _ => 0), (fun _ => 0), (fun _ => 0), (fun _ => 0), (fun _ => 0), (fun _ => 0), va) y0 := by
  subst e0
  unfold wpX_feed
  dsimp only
  refine qc_6 (by decide +kernel) ?_
  refine br_t (by decide +kernel) ?_
  refine qc_7 (by decide +kernel) ?_
  refine br_t (by decide +kernel) ?_
  refine qc_8 (by decide +kernel) ?_
  refine br_f (by decide +kernel) ?_
  refine br_t (by decide +kernel) ?_
  refine qh_in (by decide +kernel) ?_
  refine nm_r (e' := (qa_1_3 t)) (qh_up (by decide +kernel) (by decide +kernel)) ?_
  refine nm_r (e' := (3 : Int32)) (by decide +kernel) ?_
  exact h
theorem qc_10 {post : Int32 → Prop} {y0 : Int32} (e0 : y0 = 97) (h : post 0) : wpX_isDigit post () y0 := by
  subst e0
  unfold wpX_isDigit
  refine br_f (by decide +kernel) ?_
  refine br_t (by decide +kernel) ?_
  exact h
theorem qc_11 {post : Int32 → Prop} {y0 : Int32} (e0 : y0 = 97) (h : post 1) : wpX_isLetter post () y0 := by
  subst e0
  unfold wpX_isLetter
  refine br_f (by decide +kernel) ?_
  refine br_f (by decide +kernel) ?_
  exact h
def qa_1_4 (t : Nat) : Nat → Int32 := upd (qa_1_3 t) 3 97
theorem qc_12 {t : Nat} {va : Nat → Int32} {post : Int32 → St2 → Prop} {y0 : Int32} (e0 : y0 = 97) (h : post 4 (4, 0, 0, 0, 0, 0, 0, 0, 0, 0, 0, 0, 0, 0, 0, (qa_1_4 t), (fun _ => 0), (fun _ => 0), (fun _ => 0), (fun _ => 0), (fun _ => 0), (fun _ => 0), (fun _ => 0), (fun _ => 0), (fun _ => 0), (fun _ => 0), (fun _ => 0), va)) : wpX_feed post (3, 0, 0, 0, 0, 0, 0, 0, 0, 0, 0, 0, 0, 0, 0, (qa_1_3 t), (fun _ => 0), (fun _ => 0), (fun _ => 0), (fun _ => 0), (fun _ => 0), (fun _ => 0), (fun _ => 0), (fun _ => 0), (fun _ => 0), (fun _ => 0), (fun _ => 0), va) y0 := by
  subst e0
  unfold wpX_feed
  dsimp only
  refine qc_10 (by decide +kernel) ?_
  refine br_t (by decide +kernel) ?_
  refine qc_11 (by decide +kernel) ?_
  refine br_f (by decide +kernel) ?_
  refine br_f (by decide +kernel) ?_
  refine br_t (by decide +kernel) ?_
  refine qh_in (by decide +kernel) ?_
  refine nm_r (e' := (qa_1_4 t)) (qh_up (by decide +kernel) (by decide +kernel)) ?_
  refine nm_r (e' := (4 : Int32)) (by decide +kernel) ?_
  exact h
theorem qc_13 {post : Int32 → Prop} {y0 : Int32} (e0 : y0 = 61) (h : post 0) : wpX_isDigit post () y0 := by
  subst e0
  unfold wpX_isDigit
  refine br_f (by decide +kernel) ?_
  refine br_t (by decide +kernel) ?_
  exact h
theorem qc_14 {post : Int32 → Prop} {y0 : Int32} (e0 : y0 = 61) (h : post 0) : wpX_isLetter post () y0 := by
  subst e0
  unfold wpX_isLetter
  refine br_t (by decide +kernel) ?_
  exact h
theorem qc_15 {post : Int32 → Prop} {y0 : Int32} (e0 : y0 = 61) (h : post 1) : wpX_isSign post () y0 := by
  subst e0
  unfold wpX_isSign
  refine br_f (by decide +kernel) ?_
  refine br_f (by decide +kernel) ?_
  refine br_f (by decide +kernel) ?_
  refine br_f (by decide +kernel) ?_
  refine br_f (by decide +kernel) ?_
  refine br_f (by decide +kernel) ?_
  refine br_f (by decide +kernel) ?_
  refine br_f (by decide +kernel) ?_
  refine br_f (by decide +kernel) ?_
  refine br_t (by decide +kernel) ?_
  exact h
def qa_1_5 (t : Nat) : Nat → Int32 := upd (qa_1_4 t) 4 61
theorem qc_16 {t : Nat} {va : Nat → Int32} {post : Int32 → St2 → Prop} {y0 : Int32} (e0 : y0 = 61) (h : post 5 (5, 0, 0, 0, 0, 0, 0, 0, 0, 0, 0, 0, 0, 0, 0, (qa_1_5 t), (fun _ => 0), (fun _ => 0), (fun _ => 0), (fun _ => 0), (fun _ => 0), (fun _ => 0), (fun _ => 0), (fun _ => 0), (fun _ => 0), (fun _ => 0), (fun _ => 0), va)) : wpX_feed post (4, 0, 0, 0, 0, 0, 0, 0, 0, 0, 0, 0, 0, 0, 0, (qa_1_4 t), (fun _ => 0), (fun _ => 0), (fun _ => 0), (fun _ => 0), (fun _ => 0), (fun _ => 0), (fun _ => 0), (fun _ => 0), (fun _ => 0), (fun _ => 0), (fun _ => 0), va) y0 := by
  subst e0
  unfold wpX_feed
  dsimp only
  refine qc_13 (by decide +kernel) ?_
  refine br_t (by decide +kernel) ?_
  refine qc_14 (by decide +kernel) ?_
  refine br_t (by decide +kernel) ?_
  refine qc_15 (by decide +kernel) ?_
  refine br_f (by decide +kernel) ?_
  refine br_t (by decide +kernel) ?_
  refine qh_in (by decide +kernel) ?_
  refine nm_r (e' := (qa_1_5 t)) (qh_up (by decide +kernel) (by decide +kernel)) ?_
  refine nm_r (e' := (5 : Int32)) (by decide +kernel) ?_
  exact h
def qa_1_6 (t : Nat) : Nat → Int32 := upd (qa_1_5 t) 5 97
theorem qc_17 {t : Nat} {va : Nat → Int32} {post : Int32 → St2 → Prop} {y0 : Int32} (e0 : y0 = 97) (h : post 6 (6, 0, 0, 0, 0, 0, 0, 0, 0, 0, 0, 0, 0, 0, 0, (qa_1_6 t), (fun _ => 0), (fun _ => 0), (fun _ => 0), (fun _ => 0), (fun _ => 0), (fun _ => 0), (fun _ => 0), (fun _ => 0), (fun _ => 0), (fun _ => 0), (fun _ => 0), va)) : wpX_feed post (5, 0, 0, 0, 0, 0, 0, 0, 0, 0, 0, 0, 0, 0, 0, (qa_1_5 t), (fun _ => 0), (fun _ => 0), (fun _ => 0), (fun _ => 0), (fun _ => 0), (fun _ => 0), (fun _ => 0), (fun _ => 0), (fun _ => 0), (fun _ => 0), (fun _ => 0), va) y0 := by
  subst e0
  unfold wpX_feed
  dsimp only
  refine qc_10 (by decide +kernel) ?_
  refine br_t (by decide +kernel) ?_
  refine qc_11 (by decide +kernel) ?_
  refine br_f (by decide +kernel) ?_
  refine br_f (by decide +kernel) ?_
  refine br_t (by decide +kernel) ?_
  refine qh_in (by decide +kernel) ?_
  refine nm_r (e' := (qa_1_6 t)) (qh_up (by decide +kernel) (by decide +kernel)) ?_
  refine nm_r (e' := (6 : Int32)) (by decide +kernel) ?_
  exact h
theorem qc_18 {t : Nat} {va : Nat → Int32} {post : St2 → Prop} {y0 y1 y2 y3 y4 y5 : Int32} (ht : t < 10) (e0 : y0 = 35) (e1 : y1 = (nI (48 + t))) (e2 : y2 = 123) (e3 : y3 = 97) (e4 : y4 = 61) (e5 : y5 = 97) (h : post (6, 0, 0, 0, 0, 0, 0, 0, 0, 0, 0, 0, 0, 0, 0, (qa_1_6 t), (fun _ => 0), (fun _ => 0), (fun _ => 0), (fun _ => 0), (fun _ => 0), (fun _ => 0), (fun _ => 0), (fun _ => 0), (fun _ => 0), (fun _ => 0), (fun _ => 0), va)) : wpL_t post (0, 0, 0, 0, 0, 0, 0, 0, 0, 0, 0, 0, 0, 0, 0, (fun _ => 0), (fun _ => 0), (fun _ => 0), (fun _ => 0), (fun _ => 0), (fun _ => 0), (fun _ => 0), (fun _ => 0), (fun _ => 0), (fun _ => 0), (fun _ => 0), (fun _ => 0), va) y0 y1 y2 y3 y4 y5 := by
  subst e0 e1 e2 e3 e4 e5
  unfold wpL_t
  dsimp only
  refine qc_4 (by decide +kernel) ?_
  dsimp only
  refine qc_5 ht rfl ?_
  dsimp only
  refine qc_9 (by decide +kernel) ?_
  dsimp only
  refine qc_12 (by decide +kernel) ?_
  dsimp only
  refine qc_16 (by decide +kernel) ?_
  dsimp only
  refine qc_17 (by decide +kernel) ?_
  dsimp only
  exact h
theorem qc_19 {post : Int32 → Prop} {y0 : Int32} (e0 : y0 = 43) (h : post 0) : wpX_isDigit post () y0 := by
  subst e0
  unfold wpX_isDigit
  refine br_t (by decide +kernel) ?_
  exact h
theorem qc_20 {post : Int32 → Prop} {y0 : Int32} (e0 : y0 = 43) (h : post 0) : wpX_isLetter post () y0 := by
  subst e0
  unfold wpX_isLetter
  refine br_t (by decide +kernel) ?_
  exact h
theorem qc_21 {post : Int32 → Prop} {y0 : Int32} (e0 : y0 = 43) (h : post 1) : wpX_isSign post () y0 := by
  subst e0
  unfold wpX_isSign
  refine br_f (by decide +kernel) ?_
  refine br_f (by decide +kernel) ?_
  refine br_f (by decide +kernel) ?_
  refine br_f (by decide +kernel) ?_
  refine br_f (by decide +kernel) ?_
  refine br_t (by decide +kernel) ?_
  exact h
def qa_1_7 (t : Nat) : Nat → Int32 := upd (qa_1_6 t) 6 43
theorem qc_22 {t : Nat} {va : Nat → Int32} {post : Int32 → St2 → Prop} {y0 : Int32} (e0 : y0 = 43) (h : post 7 (7, 0, 0, 0, 0, 0, 0, 0, 0, 0, 0, 0, 0, 0, 0, (qa_1_7 t), (fun _ => 0), (fun _ => 0), (fun _ => 0), (fun _ => 0), (fun _ => 0), (fun _ => 0), (fun _ => 0), (fun _ => 0), (fun _ => 0), (fun _ => 0), (fun _ => 0), va)) : wpX_feed post (6, 0, 0, 0, 0, 0, 0, 0, 0, 0, 0, 0, 0, 0, 0, (qa_1_6 t), (fun _ => 0), (fun _ => 0), (fun _ => 0), (fun _ => 0), (fun _ => 0), (fun _ => 0), (fun _ => 0), (fun _ => 0), (fun _ => 0), (fun _ => 0), (fun _ => 0), va) y0 := by
  subst e0
  unfold wpX_feed
  dsimp only
  refine qc_19 (by decide +kernel) ?_
  refine br_t (by decide +kernel) ?_
  refine qc_20 (by decide +kernel) ?_
  refine br_t (by decide +kernel) ?_
  refine qc_21 (by decide +kernel) ?_
  refine br_f (by decide +kernel) ?_
  refine br_t (by decide +kernel) ?_
  refine qh_in (by decide +kernel) ?_
  refine nm_r (e' := (qa_1_7 t)) (qh_up (by decide +kernel) (by decide +kernel)) ?_
  refine nm_r (e' := (7 : Int32)) (by decide +kernel) ?_
  exact h
theorem qc_23 {post : Int32 → Prop} {y0 : Int32} (e0 : y0 = 98) (h : post 0) : wpX_isDigit post () y0 := by
  subst e0
  unfold wpX_isDigit
  refine br_f (by decide +kernel) ?_
  refine br_t (by decide +kernel) ?_
  exact h
theorem qc_24 {post : Int32 → Prop} {y0 : Int32} (e0 : y0 = 98) (h : post 1) : wpX_isLetter post () y0 := by
  subst e0
  unfold wpX_isLetter
  refine br_f (by decide +kernel) ?_
  refine br_f (by decide +kernel) ?_
  exact h
def qa_1_8 (t : Nat) : Nat → Int32 := upd (qa_1_7 t) 7 98
theorem qc_25 {t : Nat} {va : Nat → Int32} {post : Int32 → St2 → Prop} {y0 : Int32} (e0 : y0 = 98) (h : post 8 (8, 0, 0, 0, 0, 0, 0, 0, 0, 0, 0, 0, 0, 0, 0, (qa_1_8 t), (fun _ => 0), (fun _ => 0), (fun _ => 0), (fun _ => 0), (fun _ => 0), (fun _ => 0), (fun _ => 0), (fun _ => 0), (fun _ => 0), (fun _ => 0), (fun _ => 0), va)) : wpX_feed post (7, 0, 0, 0, 0, 0, 0, 0, 0, 0, 0, 0, 0, 0, 0, (qa_1_7 t), (fun _ => 0), (fun _ => 0), (fun _ => 0), (fun _ => 0), (fun _ => 0), (fun _ => 0), (fun _ => 0), (fun _ => 0), (fun _ => 0), (fun _ => 0), (fun _ => 0), va) y0 := by
  subst e0
  unfold wpX_feed
  dsimp only
  refine qc_23 (by decide +kernel) ?_
  refine br_t (by decide +kernel) ?_
  refine qc_24 (by decide +kernel) ?_
  refine br_f (by decide +kernel) ?_
  refine br_f (by decide +kernel) ?_
  refine br_t (by decide +kernel) ?_
  refine qh_in (by decide +kernel) ?_
  refine nm_r (e' := (qa_1_8 t)) (qh_up (by decide +kernel) (by decide +kernel)) ?_
  refine nm_r (e' := (8 : Int32)) (by decide +kernel) ?_
  exact h
theorem qc_26 {post : Int32 → Prop} {y0 : Int32} (e0 : y0 = 42) (h : post 0) : wpX_isDigit post () y0 := by
  subst e0
  unfold wpX_isDigit
  refine br_t (by decide +kernel) ?_
  exact h
theorem qc_27 {post : Int32 → Prop} {y0 : Int32} (e0 : y0 = 42) (h : post 0) : wpX_isLetter post () y0 := by
  subst e0
  unfold wpX_isLetter
  refine br_t (by decide +kernel) ?_
  exact h
theorem qc_28 {post : Int32 → Prop} {y0 : Int32} (e0 : y0 = 42) (h : post 1) : wpX_isSign post () y0 := by
  subst e0
  unfold wpX_isSign
  refine br_f (by decide +kernel) ?_
  refine br_f (by decide +kernel) ?_
  refine br_f (by decide +kernel) ?_
  refine br_f (by decide +kernel) ?_
  refine br_t (by decide +kernel) ?_
  exact h
def qa_1_9 (t : Nat) : Nat → Int32 := upd (qa_1_8 t) 8 42
theorem qc_29 {t : Nat} {va : Nat → Int32} {post : Int32 → St2 → Prop} {y0 : Int32} (e0 : y0 = 42) (h : post 9 (9, 0, 0, 0, 0, 0, 0, 0, 0, 0, 0, 0, 0, 0, 0, (qa_1_9 t), (fun _ => 0), (fun _ => 0), (fun _ => 0), (fun _ => 0), (fun _ => 0), (fun _ => 0), (fun _ => 0), (fun _ => 0), (fun _ => 0), (fun _ => 0), (fun _ => 0), va)) : wpX_feed post (8, 0, 0, 0, 0, 0, 0, 0, 0, 0, 0, 0, 0, 0, 0, (qa_1_8 t), (fun _ => 0), (fun _ => 0), (fun _ => 0), (fun _ => 0), (fun _ => 0), (fun _ => 0), (fun _ => 0), (fun _ => 0), (fun _ => 0), (fun _ => 0), (fun _ => 0), va) y0 := by
  subst e0
  unfold wpX_feed
  dsimp only
  refine qc_26 (by decide +kernel) ?_
  refine br_t (by decide +kernel) ?_
  refine qc_27 (by decide +kernel) ?_
  refine br_t (by decide +kernel) ?_
  refine qc_28 (by decide +kernel) ?_
  refine br_f (by decide +kernel) ?_
  refine br_t (by decide +kernel) ?_
  refine qh_in (by decide +kernel) ?_
  refine nm_r (e' := (qa_1_9 t)) (qh_up (by decide +kernel) (by decide +kernel)) ?_
  refine nm_r (e' := (9 : Int32)) (by decide +kernel) ?_
  exact h
theorem qc_30 {post : Int32 → Prop} {y0 : Int32} (e0 : y0 = 45) (h : post 0) : wpX_isDigit post () y0 := by
  subst e0
  unfold wpX_isDigit
  refine br_t (by decide +kernel) ?_
  exact h
theorem qc_31 {post : Int32 → Prop} {y0 : Int32} (e0 : y0 = 45) (h : post 0) : wpX_isLetter post () y0 := by
  subst e0
  unfold wpX_isLetter
  refine br_t (by decide +kernel) ?_
  exact h
theorem qc_32 {post : Int32 → Prop} {y0 : Int32} (e0 : y0 = 45) (h : post 1) : wpX_isSign post () y0 := by
  subst e0
  unfold wpX_isSign
  refine br_f (by decide +kernel) ?_
  refine br_f (by decide +kernel) ?_
  refine br_f (by decide +kernel) ?_
  refine br_f (by decide +kernel) ?_
  refine br_f (by decide +kernel) ?_
  refine br_f (by decide +kernel) ?_
  refine br_t (by decide +kernel) ?_
  exact h
def qa_1_10 (t : Nat) : Nat → Int32 := upd (qa_1_9 t) 9 45
theorem qc_33 {t : Nat} {va : Nat → Int32} {post : Int32 → St2 → Prop} {y0 : Int32} (e0 : y0 = 45) (h : post 10 (10, 0, 0, 0, 0, 0, 0, 0, 0, 0, 0, 0, 0, 0, 0, (qa_1_10 t), (fun _ => 0), (fun _ => 0), (fun _ => 0), (fun _ => 0), (fun _ => 0), (fun _ => 0), (fun _ => 0), (fun _ => 0), (fun _ => 0), (fun _ => 0), (fun _ => 0), va)) : wpX_feed post (9, 0, 0, 0, 0, 0, 0, 0, 0, 0, 0, 0, 0, 0, 0, (qa_1_9 t), (fun _ => 0), (fun _ => 0), (fun _ => 0), (fun _ => 0), (fun _ => 0), (fun _ => 0), (fun _ => 0), (fun _ => 0), (fun _ => 0), (fun _ => 0), (fun _ => 0), va) y0 := by
  subst e0
  unfold wpX_feed
  dsimp only
  refine qc_30 (by decide +kernel) ?_
  refine br_t (by decide +kernel) ?_
  refine qc_31 (by decide +kernel) ?_
  refine br_t (by decide +kernel) ?_
  refine qc_32 (by decide +kernel) ?_
  refine br_f (by decide +kernel) ?_
  refine br_t (by decide +kernel) ?_
  refine qh_in (by decide +kernel) ?_
  refine nm_r (e' := (qa_1_10 t)) (qh_up (by decide +kernel) (by decide +kernel)) ?_
  refine nm_r (e' := (10 : Int32)) (by decide +kernel) ?_
  exact h
theorem qc_34 {post : Int32 → Prop} {y0 : Int32} (e0 : y0 = 99) (h : post 0) : wpX_isDigit post () y0 := by
  subst e0
  unfold wpX_isDigit
  refine br_f (by decide +kernel) ?_
  refine br_t (by decide +kernel) ?_
  exact h
theorem qc_35 {post : Int32 → Prop} {y0 : Int32} (e0 : y0 = 99) (h : post 1) : wpX_isLetter post () y0 := by
  subst e0
  unfold wpX_isLetter
  refine br_f (by decide +kernel) ?_
  refine br_f (by decide +kernel) ?_
  exact h
def qa_1_11 (t : Nat) : Nat → Int32 := upd (qa_1_10 t) 10 99
theorem qc_36 {t : Nat} {va : Nat → Int32} {post : Int32 → St2 → Prop} {y0 : Int32} (e0 : y0 = 99) (h : post 11 (11, 0, 0, 0, 0, 0, 0, 0, 0, 0, 0, 0, 0, 0, 0, (qa_1_11 t), (fun _ => 0), (fun _ => 0), (fun _ => 0), (fun _ => 0), (fun _ => 0), (fun _ => 0), (fun _ => 0), (fun _ => 0), (fun _ => 0), (fun _ => 0), (fun _ => 0), va)) : wpX_feed post (10, 0, 0, 0, 0, 0, 0, 0, 0, 0, 0, 0, 0, 0, 0, (qa_1_10 t), (fun _ => 0), (fun _ => 0), (fun _ => 0), (fun _ => 0), (fun _ => 0), (fun _ => 0), (fun _ => 0), (fun _ => 0), (fun _ => 0), (fun _ => 0), (fun _ => 0), va) y0 := by
  subst e0
  unfold wpX_feed
  dsimp only
  refine qc_34 (by decide +kernel) ?_
  refine br_t (by decide +kernel) ?_
  refine qc_35 (by decide +kernel) ?_
  refine br_f (by decide +kernel) ?_
  refine br_f (by decide +kernel) ?_
  refine br_t (by decide +kernel) ?_
  refine qh_in (by decide +kernel) ?_
  refine nm_r (e' := (qa_1_11 t)) (qh_up (by decide +kernel) (by decide +kernel)) ?_
  refine nm_r (e' := (11 : Int32)) (by decide +kernel) ?_
  exact h
theorem qc_37 {post : Int32 → Prop} {y0 : Int32} (e0 : y0 = 59) (h : post 0) : wpX_isDigit post () y0 := by
  subst e0
  unfold wpX_isDigit
  refine br_f (by decide +kernel) ?_
  refine br_t (by decide +kernel) ?_
  exact h
theorem qc_38 {post : Int32 → Prop} {y0 : Int32} (e0 : y0 = 59) (h : post 0) : wpX_isLetter post () y0 := by
  subst e0
  unfold wpX_isLetter
  refine br_t (by decide +kernel) ?_
  exact h
theorem qc_39 {post : Int32 → Prop} {y0 : Int32} (e0 : y0 = 59) (h : post 1) : wpX_isSign post () y0 := by
  subst e0
  unfold wpX_isSign
  refine br_f (by decide +kernel) ?_
  refine br_f (by decide +kernel) ?_
  refine br_f (by decide +kernel) ?_
  refine br_f (by decide +kernel) ?_
  refine br_f (by decide +kernel) ?_
  refine br_f (by decide +kernel) ?_
  refine br_f (by decide +kernel) ?_
  refine br_t (by decide +kernel) ?_
  exact h
def qa_1_12 (t : Nat) : Nat → Int32 := upd (qa_1_11 t) 11 59
theorem qc_40 {t : Nat} {va : Nat → Int32} {post : Int32 → St2 → Prop} {y0 : Int32} (e0 : y0 = 59) (h : post 12 (12, 0, 0, 0, 0, 0, 0, 0, 0, 0, 0, 0, 0, 0, 0, (qa_1_12 t), (fun _ => 0), (fun _ => 0), (fun _ => 0), (fun _ => 0), (fun _ => 0), (fun _ => 0), (fun _ => 0), (fun _ => 0), (fun _ => 0), (fun _ => 0), (fun _ => 0), va)) : wpX_feed post (11, 0, 0, 0, 0, 0, 0, 0, 0, 0, 0, 0, 0, 0, 0, (qa_1_11 t), (fun _ => 0), (fun _ => 0), (fun _ => 0), (fun _ => 0), (fun _ => 0), (fun _ => 0), (fun _ => 0), (fun _ => 0), (fun _ => 0), (fun _ => 0), (fun _ => 0), va) y0 := by
  subst e0
  unfold wpX_feed
  dsimp only
  refine qc_37 (by decide +kernel) ?_
  refine br_t (by decide +kernel) ?_
  refine qc_38 (by decide +kernel) ?_
  refine br_t (by decide +kernel) ?_
  refine qc_39 (by decide +kernel) ?_
  refine br_f (by decide +kernel) ?_
  refine br_t (by decide +kernel) ?_
  refine qh_in (by decide +kernel) ?_
  refine nm_r (e' := (qa_1_12 t)) (qh_up (by decide +kernel) (by decide +kernel)) ?_
  refine nm_r (e' := (12 : Int32)) (by decide +kernel) ?_
  exact h
theorem qc_41 {t : Nat} {va : Nat → Int32} {post : St2 → Prop} {y0 y1 y2 y3 y4 y5 : Int32} (e0 : y0 = 43) (e1 : y1 = 98) (e2 : y2 = 42) (e3 : y3 = 45) (e4 : y4 = 99) (e5 : y5 = 59) (h : post (12, 0, 0, 0, 0, 0, 0, 0, 0, 0, 0, 0, 0, 0, 0, (qa_1_12 t), (fun _ => 0), (fun _ => 0), (fun _ => 0), (fun _ => 0), (fun _ => 0), (fun _ => 0), (fun _ => 0), (fun _ => 0), (fun _ => 0), (fun _ => 0), (fun _ => 0), va)) : wpL_t post (6, 0, 0, 0, 0, 0, 0, 0, 0, 0, 0, 0, 0, 0, 0, (qa_1_6 t), (fun _ => 0), (fun _ => 0), (fun _ => 0), (fun _ => 0), (fun _ => 0), (fun _ => 0), (fun _ => 0), (fun _ => 0), (fun _ => 0), (fun _ => 0), (fun _ => 0), va) y0 y1 y2 y3 y4 y5 := by
  subst e0 e1 e2 e3 e4 e5
  unfold wpL_t
  dsimp only
  refine qc_22 (by decide +kernel) ?_
  dsimp only
  refine qc_25 (by decide +kernel) ?_
  dsimp only
  refine qc_29 (by decide +kernel) ?_
  dsimp only
  refine qc_33 (by decide +kernel) ?_
  dsimp only
  refine qc_36 (by decide +kernel) ?_
  dsimp only
  refine qc_40 (by decide +kernel) ?_
  dsimp only
  exact h
theorem qc_42 {post : Int32 → Prop} {y0 : Int32} (e0 : y0 = 125) (h : post 0) : wpX_isDigit post () y0 := by
  subst e0
  unfold wpX_isDigit
  refine br_f (by decide +kernel) ?_
  refine br_t (by decide +kernel) ?_
  exact h
theorem qc_43 {post : Int32 → Prop} {y0 : Int32} (e0 : y0 = 125) (h : post 0) : wpX_isLetter post () y0 := by
  subst e0
  unfold wpX_isLetter
  refine br_f (by decide +kernel) ?_
  refine br_t (by decide +kernel) ?_
  exact h
theorem qc_44 {post : Int32 → Prop} {y0 : Int32} (e0 : y0 = 125) (h : post 1) : wpX_isSign post () y0 := by
  subst e0
  unfold wpX_isSign
  refine br_f (by decide +kernel) ?_
  refine br_f (by decide +kernel) ?_
  refine br_f (by decide +kernel) ?_
  refine br_f (by decide +kernel) ?_
  refine br_f (by decide +kernel) ?_
  refine br_f (by decide +kernel) ?_
  refine br_f (by decide +kernel) ?_
  refine br_f (by decide +kernel) ?_
  refine br_f (by decide +kernel) ?_
  refine br_f (by decide +kernel) ?_
  refine br_f (by decide +kernel) ?_
  refine br_f (by decide +kernel) ?_
  refine br_t (by decide +kernel) ?_
  exact h
def qa_1_13 (t : Nat) : Nat → Int32 := upd (qa_1_12 t) 12 125
theorem qc_45 {t : Nat} {va : Nat → Int32} {post : Int32 → St2 → Prop} {y0 : Int32} (e0 : y0 = 125) (h : post 13 (13, 0, 0, 0, 0, 0, 0, 0, 0, 0, 0, 0, 0, 0, 0, (qa_1_13 t), (fun _ => 0), (fun _ => 0), (fun _ => 0), (fun _ => 0), (fun _ => 0), (fun _ => 0), (fun _ => 0), (fun _ => 0), (fun _ => 0), (fun _ => 0), (fun _ => 0), va)) : wpX_feed post (12, 0, 0, 0, 0, 0, 0, 0, 0, 0, 0, 0, 0, 0, 0, (qa_1_12 t), (fun _ => 0), (fun _ => 0), (fun _ => 0), (fun _ => 0), (fun _ => 0), (fun _ => 0), (fun _ => 0), (fun _ => 0), (fun _ => 0), (fun _ => 0), (fun _ => 0), va) y0 := by
  subst e0
  unfold wpX_feed
  dsimp only
  refine qc_42 (by decide +kernel) ?_
  refine br_t (by decide +kernel) ?_
  refine qc_43 (by decide +kernel) ?_
  refine br_t (by decide +kernel) ?_
  refine qc_44 (by decide +kernel) ?_
  refine br_f (by decide +kernel) ?_
  refine br_t (by decide +kernel) ?_
  refine qh_in (by decide +kernel) ?_
  refine nm_r (e' := (qa_1_13 t)) (qh_up (by decide +kernel) (by decide +kernel)) ?_
  refine nm_r (e' := (13 : Int32)) (by decide +kernel) ?_
  exact h
theorem qc_46 {post : Int32 → Prop} {y0 : Int32} (e0 : y0 = 63) (h : post 0) : wpX_isDigit post () y0 := by
  subst e0
  unfold wpX_isDigit
  refine br_f (by decide +kernel) ?_
  refine br_t (by decide +kernel) ?_
  exact h
theorem qc_47 {post : Int32 → Prop} {y0 : Int32} (e0 : y0 = 63) (h : post 0) : wpX_isLetter post () y0 := by
  subst e0
  unfold wpX_isLetter
  refine br_t (by decide +kernel) ?_
  exact h
theorem qc_48 {post : Int32 → Prop} {y0 : Int32} (e0 : y0 = 63) (h : post 1) : wpX_isSign post () y0 := by
  subst e0
  unfold wpX_isSign
  refine br_f (by decide +kernel) ?_
  refine br_f (by decide +kernel) ?_
  refine br_f (by decide +kernel) ?_
  refine br_f (by decide +kernel) ?_
  refine br_f (by decide +kernel) ?_
  refine br_f (by decide +kernel) ?_
  refine br_f (by decide +kernel) ?_
  refine br_f (by decide +kernel) ?_
  refine br_f (by decide +kernel) ?_
  refine br_f (by decide +kernel) ?_
  refine br_t (by decide +kernel) ?_
  exact h
def qa_1_14 (t : Nat) : Nat → Int32 := upd (qa_1_13 t) 13 63
theorem qc_49 {t : Nat} {va : Nat → Int32} {post : Int32 → St2 → Prop} {y0 : Int32} (e0 : y0 = 63) (h : post 14 (14, 0, 0, 0, 0, 0, 0, 0, 0, 0, 0, 0, 0, 0, 0, (qa_1_14 t), (fun _ => 0), (fun _ => 0), (fun _ => 0), (fun _ => 0), (fun _ => 0), (fun _ => 0), (fun _ => 0), (fun _ => 0), (fun _ => 0), (fun _ => 0), (fun _ => 0), va)) : wpX_feed post (13, 0, 0, 0, 0, 0, 0, 0, 0, 0, 0, 0, 0, 0, 0, (qa_1_13 t), (fun _ => 0), (fun _ => 0), (fun _ => 0), (fun _ => 0), (fun _ => 0), (fun _ => 0), (fun _ => 0), (fun _ => 0), (fun _ => 0), (fun _ => 0), (fun _ => 0), va) y0 := by
  subst e0
  unfold wpX_feed
  dsimp only
  refine qc_46 (by decide +kernel) ?_
  refine br_t (by decide +kernel) ?_
  refine qc_47 (by decide +kernel) ?_
  refine br_t (by decide +kernel) ?_
  refine qc_48 (by decide +kernel) ?_
  refine br_f (by decide +kernel) ?_
  refine br_t (by decide +kernel) ?_
  refine qh_in (by decide +kernel) ?_
  refine nm_r (e' := (qa_1_14 t)) (qh_up (by decide +kernel) (by decide +kernel)) ?_
  refine nm_r (e' := (14 : Int32)) (by decide +kernel) ?_
  exact h
def qa_1_15 (t : Nat) : Nat → Int32 := upd (qa_1_14 t) 14 98
theorem qc_50 {t : Nat} {va : Nat → Int32} {post : Int32 → St2 → Prop} {y0 : Int32} (e0 : y0 = 98) (h : post 15 (15, 0, 0, 0, 0, 0, 0, 0, 0, 0, 0, 0, 0, 0, 0, (qa_1_15 t), (fun _ => 0), (fun _ => 0), (fun _ => 0), (fun _ => 0), (fun _ => 0), (fun _ => 0), (fun _ => 0), (fun _ => 0), (fun _ => 0), (fun _ => 0), (fun _ => 0), va)) : wpX_feed post (14, 0, 0, 0, 0, 0, 0, 0, 0, 0, 0, 0, 0, 0, 0, (qa_1_14 t), (fun _ => 0), (fun _ => 0), (fun _ => 0), (fun _ => 0), (fun _ => 0), (fun _ => 0), (fun _ => 0), (fun _ => 0), (fun _ => 0), (fun _ => 0), (fun _ => 0), va) y0 := by
  subst e0
  unfold wpX_feed
  dsimp only
  refine qc_23 (by decide +kernel) ?_
  refine br_t (by decide +kernel) ?_
  refine qc_24 (by decide +kernel) ?_
  refine br_f (by decide +kernel) ?_
  refine br_f (by decide +kernel) ?_
  refine br_t (by decide +kernel) ?_
  refine qh_in (by decide +kernel) ?_
  refine nm_r (e' := (qa_1_15 t)) (qh_up (by decide +kernel) (by decide +kernel)) ?_
  refine nm_r (e' := (15 : Int32)) (by decide +kernel) ?_
  exact h
theorem qc_51 {post : Int32 → Prop} {y0 : Int32} (e0 : y0 = 60) (h : post 0) : wpX_isDigit post () y0 := by
  subst e0
  unfold wpX_isDigit
  refine br_f (by decide +kernel) ?_
  refine br_t (by decide +kernel) ?_
  exact h
theorem qc_52 {post : Int32 → Prop} {y0 : Int32} (e0 : y0 = 60) (h : post 0) : wpX_isLetter post () y0 := by
  subst e0
  unfold wpX_isLetter
  refine br_t (by decide +kernel) ?_
  exact h
theorem qc_53 {post : Int32 → Prop} {y0 : Int32} (e0 : y0 = 60) (h : post 1) : wpX_isSign post () y0 := by
  subst e0
  unfold wpX_isSign
  refine br_f (by decide +kernel) ?_
  refine br_f (by decide +kernel) ?_
  refine br_f (by decide +kernel) ?_
  refine br_f (by decide +kernel) ?_
  refine br_f (by decide +kernel) ?_
  refine br_f (by decide +kernel) ?_
  refine br_f (by decide +kernel) ?_
  refine br_f (by decide +kernel) ?_
  refine br_t (by decide +kernel) ?_
  exact h
def qa_1_16 (t : Nat) : Nat → Int32 := upd (qa_1_15 t) 15 60
theorem qc_54 {t : Nat} {va : Nat → Int32} {post : Int32 → St2 → Prop} {y0 : Int32} (e0 : y0 = 60) (h : post 16 (16, 0, 0, 0, 0, 0, 0, 0, 0, 0, 0, 0, 0, 0, 0, (qa_1_16 t), (fun _ => 0), (fun _ => 0), (fun _ => 0), (fun _ => 0), (fun _ => 0), (fun _ => 0), (fun _ => 0), (fun _ => 0), (fun _ => 0), (fun _ => 0), (fun _ => 0), va)) : wpX_feed post (15, 0, 0, 0, 0, 0, 0, 0, 0, 0, 0, 0, 0, 0, 0, (qa_1_15 t), (fun _ => 0), (fun _ => 0), (fun _ => 0), (fun _ => 0), (fun _ => 0), (fun _ => 0), (fun _ => 0), (fun _ => 0), (fun _ => 0), (fun _ => 0), (fun _ => 0), va) y0 := by
  subst e0
  unfold wpX_feed
  dsimp only
  refine qc_51 (by decide +kernel) ?_
  refine br_t (by decide +kernel) ?_
  refine qc_52 (by decide +kernel) ?_
  refine br_t (by decide +kernel) ?_
  refine qc_53 (by decide +kernel) ?_
  refine br_f (by decide +kernel) ?_
  refine br_t (by decide +kernel) ?_
  refine qh_in (by decide +kernel) ?_
  refine nm_r (e' := (qa_1_16 t)) (qh_up (by decide +kernel) (by decide +kernel)) ?_
  refine nm_r (e' := (16 : Int32)) (by decide +kernel) ?_
  exact h
def qa_1_17 (t : Nat) : Nat → Int32 := upd (qa_1_16 t) 16 99
theorem qc_55 {t : Nat} {va : Nat → Int32} {post : Int32 → St2 → Prop} {y0 : Int32} (e0 : y0 = 99) (h : post 17 (17, 0, 0, 0, 0, 0, 0, 0, 0, 0, 0, 0, 0, 0, 0, (qa_1_17 t), (fun _ => 0), (fun _ => 0), (fun _ => 0), (fun _ => 0), (fun _ => 0), (fun _ => 0), (fun _ => 0), (fun _ => 0), (fun _ => 0), (fun _ => 0), (fun _ => 0), va)) : wpX_feed post (16, 0, 0, 0, 0, 0, 0, 0, 0, 0, 0, 0, 0, 0, 0, (qa_1_16 t), (fun _ => 0), (fun _ => 0), (fun _ => 0), (fun _ => 0), (fun _ => 0), (fun _ => 0), (fun _ => 0), (fun _ => 0), (fun _ => 0), (fun _ => 0), (fun _ => 0), va) y0 := by
  subst e0
  unfold wpX_feed
  dsimp only
  refine qc_34 (by decide +kernel) ?_
  refine br_t (by decide +kernel) ?_
  refine qc_35 (by decide +kernel) ?_
  refine br_f (by decide +kernel) ?_
  refine br_f (by decide +kernel) ?_
  refine br_t (by decide +kernel) ?_
  refine qh_in (by decide +kernel) ?_
  refine nm_r (e' := (qa_1_17 t)) (qh_up (by decide +kernel) (by decide +kernel)) ?_
  refine nm_r (e' := (17 : Int32)) (by decide +kernel) ?_
  exact h
def qa_1_18 (t : Nat) : Nat → Int32 := upd (qa_1_17 t) 17 123
theorem qc_56 {t : Nat} {va : Nat → Int32} {post : Int32 → St2 → Prop} {y0 : Int32} (e0 : y0 = 123) (h : post 18 (18, 0, 0, 0, 0, 0, 0, 0, 0, 0, 0, 0, 0, 0, 0, (qa_1_18 t), (fun _ => 0), (fun _ => 0), (fun _ => 0), (fun _ => 0), (fun _ => 0), (fun _ => 0), (fun _ => 0), (fun _ => 0), (fun _ => 0), (fun _ => 0), (fun _ => 0), va)) : wpX_feed post (17, 0, 0, 0, 0, 0, 0, 0, 0, 0, 0, 0, 0, 0, 0, (qa_1_17 t), (fun _ => 0), (fun _ => 0), (fun _ => 0), (fun _ => 0), (fun _ => 0), (fun _ => 0), (fun _ => 0), (fun _ => 0), (fun _ => 0), (fun _ => 0), (fun _ => 0), va) y0 := by
  subst e0
  unfold wpX_feed
  dsimp only
  refine qc_6 (by decide +kernel) ?_
  refine br_t (by decide +kernel) ?_
  refine qc_7 (by decide +kernel) ?_
  refine br_t (by decide +kernel) ?_
  refine qc_8 (by decide +kernel) ?_
  refine br_f (by decide +kernel) ?_
  refine br_t (by decide +kernel) ?_
  refine qh_in (by decide +kernel) ?_
  refine nm_r (e' := (qa_1_18 t)) (qh_up (by decide +kernel) (by decide +kernel)) ?_
  refine nm_r (e' := (18 : Int32)) (by decide +kernel) ?_
  exact h
theorem qc_57 {t : Nat} {va : Nat → Int32} {post : St2 → Prop} {y0 y1 y2 y3 y4 y5 : Int32} (e0 : y0 = 125) (e1 : y1 = 63) (e2 : y2 = 98) (e3 : y3 = 60) (e4 : y4 = 99) (e5 : y5 = 123) (h : post (18, 0, 0, 0, 0, 0, 0, 0, 0, 0, 0, 0, 0, 0, 0, (qa_1_18 t), (fun _ => 0), (fun _ => 0), (fun _ => 0), (fun _ => 0), (fun _ => 0), (fun _ => 0), (fun _ => 0), (fun _ => 0), (fun _ => 0), (fun _ => 0), (fun _ => 0), va)) : wpL_t post (12, 0, 0, 0, 0, 0, 0, 0, 0, 0, 0, 0, 0, 0, 0, (qa_1_12 t), (fun _ => 0), (fun _ => 0), (fun _ => 0), (fun _ => 0), (fun _ => 0), (fun _ => 0), (fun _ => 0), (fun _ => 0), (fun _ => 0), (fun _ => 0), (fun _ => 0), va) y0 y1 y2 y3 y4 y5 := by
  subst e0 e1 e2 e3 e4 e5
  unfold wpL_t
  dsimp only
  refine qc_45 (by decide +kernel) ?_
  dsimp only
  refine qc_49 (by decide +kernel) ?_
  dsimp only
  refine qc_50 (by decide +kernel) ?_
  dsimp only
  refine qc_54 (by decide +kernel) ?_
  dsimp only
  refine qc_55 (by decide +kernel) ?_
  dsimp only
  refine qc_56 (by decide +kernel) ?_
  dsimp only
  exact h
theorem qc_58 {post : Int32 → Prop} {y0 : Int32} (e0 : y0 = 100) (h : post 0) : wpX_isDigit post () y0 := by
  subst e0
  unfold wpX_isDigit
  refine br_f (by decide +kernel) ?_
  refine br_t (by decide +kernel) ?_
  exact h
theorem qc_59 {post : Int32 → Prop} {y0 : Int32} (e0 : y0 = 100) (h : post 1) : wpX_isLetter post () y0 := by
  subst e0
  unfold wpX_isLetter
  refine br_f (by decide +kernel) ?_
  refine br_f (by decide +kernel) ?_
  exact h
def qa_1_19 (t : Nat) : Nat → Int32 := upd (qa_1_18 t) 18 100
theorem qc_60 {t : Nat} {va : Nat → Int32} {post : Int32 → St2 → Prop} {y0 : Int32} (e0 : y0 = 100) (h : post 19 (19, 0, 0, 0, 0, 0, 0, 0, 0, 0, 0, 0, 0, 0, 0, (qa_1_19 t), (fun _ => 0), (fun _ => 0), (fun _ => 0), (fun _ => 0), (fun _ => 0), (fun _ => 0), (fun _ => 0), (fun _ => 0), (fun _ => 0), (fun _ => 0), (fun _ => 0), va)) : wpX_feed post (18, 0, 0, 0, 0, 0, 0, 0, 0, 0, 0, 0, 0, 0, 0, (qa_1_18 t), (fun _ => 0), (fun _ => 0), (fun _ => 0), (fun _ => 0), (fun _ => 0), (fun _ => 0), (fun _ => 0), (fun _ => 0), (fun _ => 0), (fun _ => 0), (fun _ => 0), va) y0 := by
  subst e0
  unfold wpX_feed
  dsimp only
  refine qc_58 (by decide +kernel) ?_
  refine br_t (by decide +kernel) ?_
  refine qc_59 (by decide +kernel) ?_
  refine br_f (by decide +kernel) ?_
  refine br_f (by decide +kernel) ?_
  refine br_t (by decide +kernel) ?_
  refine qh_in (by decide +kernel) ?_
  refine nm_r (e' := (qa_1_19 t)) (qh_up (by decide +kernel) (by decide +kernel)) ?_
  refine nm_r (e' := (19 : Int32)) (by decide +kernel) ?_
  exact h
def qa_1_20 (t : Nat) : Nat → Int32 := upd (qa_1_19 t) 19 61
theorem qc_61 {t : Nat} {va : Nat → Int32} {post : Int32 → St2 → Prop} {y0 : Int32} (e0 : y0 = 61) (h : post 20 (20, 0, 0, 0, 0, 0, 0, 0, 0, 0, 0, 0, 0, 0, 0, (qa_1_20 t), (fun _ => 0), (fun _ => 0), (fun _ => 0), (fun _ => 0), (fun _ => 0), (fun _ => 0), (fun _ => 0), (fun _ => 0), (fun _ => 0), (fun _ => 0), (fun _ => 0), va)) : wpX_feed post (19, 0, 0, 0, 0, 0, 0, 0, 0, 0, 0, 0, 0, 0, 0, (qa_1_19 t), (fun _ => 0), (fun _ => 0), (fun _ => 0), (fun _ => 0), (fun _ => 0), (fun _ => 0), (fun _ => 0), (fun _ => 0), (fun _ => 0), (fun _ => 0), (fun _ => 0), va) y0 := by
  subst e0
  unfold wpX_feed
  dsimp only
  refine qc_13 (by decide +kernel) ?_
  refine br_t (by decide +kernel) ?_
  refine qc_14 (by decide +kernel) ?_
  refine br_t (by decide +kernel) ?_
  refine qc_15 (by decide +kernel) ?_
  refine br_f (by decide +kernel) ?_
  refine br_t (by decide +kernel) ?_
  refine qh_in (by decide +kernel) ?_
  refine nm_r (e' := (qa_1_20 t)) (qh_up (by decide +kernel) (by decide +kernel)) ?_
  refine nm_r (e' := (20 : Int32)) (by decide +kernel) ?_
  exact h
def qa_1_21 (t : Nat) : Nat → Int32 := upd (qa_1_20 t) 20 45
theorem qc_62 {t : Nat} {va : Nat → Int32} {post : Int32 → St2 → Prop} {y0 : Int32} (e0 : y0 = 45) (h : post 21 (21, 0, 0, 0, 0, 0, 0, 0, 0, 0, 0, 0, 0, 0, 0, (qa_1_21 t), (fun _ => 0), (fun _ => 0), (fun _ => 0), (fun _ => 0), (fun _ => 0), (fun _ => 0), (fun _ => 0), (fun _ => 0), (fun _ => 0), (fun _ => 0), (fun _ => 0), va)) : wpX_feed post (20, 0, 0, 0, 0, 0, 0, 0, 0, 0, 0, 0, 0, 0, 0, (qa_1_20 t), (fun _ => 0), (fun _ => 0), (fun _ => 0), (fun _ => 0), (fun _ => 0), (fun _ => 0), (fun _ => 0), (fun _ => 0), (fun _ => 0), (fun _ => 0), (fun _ => 0), va) y0 := by
  subst e0
  unfold wpX_feed
  dsimp only
  refine qc_30 (by decide +kernel) ?_
  refine br_t (by decide +kernel) ?_
  refine qc_31 (by decide +kernel) ?_
  refine br_t (by decide +kernel) ?_
  refine qc_32 (by decide +kernel) ?_
  refine br_f (by decide +kernel) ?_
  refine br_t (by decide +kernel) ?_
  refine qh_in (by decide +kernel) ?_
  refine nm_r (e' := (qa_1_21 t)) (qh_up (by decide +kernel) (by decide +kernel)) ?_
  refine nm_r (e' := (21 : Int32)) (by decide +kernel) ?_
  exact h
theorem qc_63 {post : Int32 → Prop} {y0 : Int32} (e0 : y0 = 40) (h : post 0) : wpX_isDigit post () y0 := by
  subst e0
  unfold wpX_isDigit
  refine br_t (by decide +kernel) ?_
  exact h
theorem qc_64 {post : Int32 → Prop} {y0 : Int32} (e0 : y0 = 40) (h : post 0) : wpX_isLetter post () y0 := by
  subst e0
  unfold wpX_isLetter
  refine br_t (by decide +kernel) ?_
  exact h
theorem qc_65 {post : Int32 → Prop} {y0 : Int32} (e0 : y0 = 40) (h : post 1) : wpX_isSign post () y0 := by
  subst e0
  unfold wpX_isSign
  refine br_f (by decide +kernel) ?_
  refine br_f (by decide +kernel) ?_
  refine br_t (by decide +kernel) ?_
  exact h
def qa_1_22 (t : Nat) : Nat → Int32 := upd (qa_1_21 t) 21 40
theorem qc_66 {t : Nat} {va : Nat → Int32} {post : Int32 → St2 → Prop} {y0 : Int32} (e0 : y0 = 40) (h : post 22 (22, 0, 0, 0, 0, 0, 0, 0, 0, 0, 0, 0, 0, 0, 0, (qa_1_22 t), (fun _ => 0), (fun _ => 0), (fun _ => 0), (fun _ => 0), (fun _ => 0), (fun _ => 0), (fun _ => 0), (fun _ => 0), (fun _ => 0), (fun _ => 0), (fun _ => 0), va)) : wpX_feed post (21, 0, 0, 0, 0, 0, 0, 0, 0, 0, 0, 0, 0, 0, 0, (qa_1_21 t), (fun _ => 0), (fun _ => 0), (fun _ => 0), (fun _ => 0), (fun _ => 0), (fun _ => 0), (fun _ => 0), (fun _ => 0), (fun _ => 0), (fun _ => 0), (fun _ => 0), va) y0 := by
  subst e0
  unfold wpX_feed
  dsimp only
  refine qc_63 (by decide +kernel) ?_
  refine br_t (by decide +kernel) ?_
  refine qc_64 (by decide +kernel) ?_
  refine br_t (by decide +kernel) ?_
  refine qc_65 (by decide +kernel) ?_
  refine br_f (by decide +kernel) ?_
  refine br_t (by decide +kernel) ?_
  refine qh_in (by decide +kernel) ?_
  refine nm_r (e' := (qa_1_22 t)) (qh_up (by decide +kernel) (by decide +kernel)) ?_
  refine nm_r (e' := (22 : Int32)) (by decide +kernel) ?_
  exact h
def qa_1_23 (t : Nat) : Nat → Int32 := upd (qa_1_22 t) 22 99
theorem qc_67 {t : Nat} {va : Nat → Int32} {post : Int32 → St2 → Prop} {y0 : Int32} (e0 : y0 = 99) (h : post 23 (23, 0, 0, 0, 0, 0, 0, 0, 0, 0, 0, 0, 0, 0, 0, (qa_1_23 t), (fun _ => 0), (fun _ => 0), (fun _ => 0), (fun _ => 0), (fun _ => 0), (fun _ => 0), (fun _ => 0), (fun _ => 0), (fun _ => 0), (fun _ => 0), (fun _ => 0), va)) : wpX_feed post (22, 0, 0, 0, 0, 0, 0, 0, 0, 0, 0, 0, 0, 0, 0, (qa_1_22 t), (fun _ => 0), (fun _ => 0), (fun _ => 0), (fun _ => 0), (fun _ => 0), (fun _ => 0), (fun _ => 0), (fun _ => 0), (fun _ => 0), (fun _ => 0), (fun _ => 0), va) y0 := by
  subst e0
  unfold wpX_feed
  dsimp only
  refine qc_34 (by decide +kernel) ?_
  refine br_t (by decide +kernel) ?_
  refine qc_35 (by decide +kernel) ?_
  refine br_f (by decide +kernel) ?_
  refine br_f (by decide +kernel) ?_
  refine br_t (by decide +kernel) ?_
  refine qh_in (by decide +kernel) ?_
  refine nm_r (e' := (qa_1_23 t)) (qh_up (by decide +kernel) (by decide +kernel)) ?_
  refine nm_r (e' := (23 : Int32)) (by decide +kernel) ?_
  exact h
def qa_1_24 (t : Nat) : Nat → Int32 := upd (qa_1_23 t) 23 45
theorem qc_68 {t : Nat} {va : Nat → Int32} {post : Int32 → St2 → Prop} {y0 : Int32} (e0 : y0 = 45) (h : post 24 (24, 0, 0, 0, 0, 0, 0, 0, 0, 0, 0, 0, 0, 0, 0, (qa_1_24 t), (fun _ => 0), (fun _ => 0), (fun _ => 0), (fun _ => 0), (fun _ => 0), (fun _ => 0), (fun _ => 0), (fun _ => 0), (fun _ => 0), (fun _ => 0), (fun _ => 0), va)) : wpX_feed post (23, 0, 0, 0, 0, 0, 0, 0, 0, 0, 0, 0, 0, 0, 0, (qa_1_23 t), (fun _ => 0), (fun _ => 0), (fun _ => 0), (fun _ => 0), (fun _ => 0), (fun _ => 0), (fun _ => 0), (fun _ => 0), (fun _ => 0), (fun _ => 0), (fun _ => 0), va) y0 := by
  subst e0
  unfold wpX_feed
  dsimp only
  refine qc_30 (by decide +kernel) ?_
  refine br_t (by decide +kernel) ?_
  refine qc_31 (by decide +kernel) ?_
  refine br_t (by decide +kernel) ?_
  refine qc_32 (by decide +kernel) ?_
  refine br_f (by decide +kernel) ?_
  refine br_t (by decide +kernel) ?_
  refine qh_in (by decide +kernel) ?_
  refine nm_r (e' := (qa_1_24 t)) (qh_up (by decide +kernel) (by decide +kernel)) ?_
  refine nm_r (e' := (24 : Int32)) (by decide +kernel) ?_
  exact h
theorem qc_69 {t : Nat} {va : Nat → Int32} {post : St2 → Prop} {y0 y1 y2 y3 y4 y5 : Int32} (e0 : y0 = 100) (e1 : y1 = 61) (e2 : y2 = 45) (e3 : y3 = 40) (e4 : y4 = 99) (e5 : y5 = 45) (h : post (24, 0, 0, 0, 0, 0, 0, 0, 0, 0, 0, 0, 0, 0, 0, (qa_1_24 t), (fun _ => 0), (fun _ => 0), (fun _ => 0), (fun _ => 0), (fun _ => 0), (fun _ => 0), (fun _ => 0), (fun _ => 0), (fun _ => 0), (fun _ => 0), (fun _ => 0), va)) : wpL_t post (18, 0, 0, 0, 0, 0, 0, 0, 0, 0, 0, 0, 0, 0, 0, (qa_1_18 t), (fun _ => 0), (fun _ => 0), (fun _ => 0), (fun _ => 0), (fun _ => 0), (fun _ => 0), (fun _ => 0), (fun _ => 0), (fun _ => 0), (fun _ => 0), (fun _ => 0), va) y0 y1 y2 y3 y4 y5 := by
  subst e0 e1 e2 e3 e4 e5
  unfold wpL_t
  dsimp only
  refine qc_60 (by decide +kernel) ?_
  dsimp only
  refine qc_61 (by decide +kernel) ?_
  dsimp only
  refine qc_62 (by decide +kernel) ?_
  dsimp only
  refine qc_66 (by decide +kernel) ?_
  dsimp only
  refine qc_67 (by decide +kernel) ?_
  dsimp only
  refine qc_68 (by decide +kernel) ?_
  dsimp only
  exact h
def qa_1_25 (t : Nat) : Nat → Int32 := upd (qa_1_24 t) 24 98
theorem qc_70 {t : Nat} {va : Nat → Int32} {post : Int32 → St2 → Prop} {y0 : Int32} (e0 : y0 = 98) (h : post 25 (25, 0, 0, 0, 0, 0, 0, 0, 0, 0, 0, 0, 0, 0, 0, (qa_1_25 t), (fun _ => 0), (fun _ => 0), (fun _ => 0), (fun _ => 0), (fun _ => 0), (fun _ => 0), (fun _ => 0), (fun _ => 0), (fun _ => 0), (fun _ => 0), (fun _ => 0), va)) : wpX_feed post (24, 0, 0, 0, 0, 0, 0, 0, 0, 0, 0, 0, 0, 0, 0, (qa_1_24 t), (fun _ => 0), (fun _ => 0), (fun _ => 0), (fun _ => 0), (fun _ => 0), (fun _ => 0), (fun _ => 0), (fun _ => 0), (fun _ => 0), (fun _ => 0), (fun _ => 0), va) y0 := by
  subst e0
  unfold wpX_feed
  dsimp only
  refine qc_23 (by decide +kernel) ?_
  refine br_t (by decide +kernel) ?_
  refine qc_24 (by decide +kernel) ?_
  refine br_f (by decide +kernel) ?_
  refine br_f (by decide +kernel) ?_
  refine br_t (by decide +kernel) ?_
  refine qh_in (by decide +kernel) ?_
  refine nm_r (e' := (qa_1_25 t)) (qh_up (by decide +kernel) (by decide +kernel)) ?_
  refine nm_r (e' := (25 : Int32)) (by decide +kernel) ?_
  exact h
theorem qc_71 {post : Int32 → Prop} {y0 : Int32} (e0 : y0 = 41) (h : post 0) : wpX_isDigit post () y0 := by
  subst e0
  unfold wpX_isDigit
  refine br_t (by decide +kernel) ?_
  exact h
theorem qc_72 {post : Int32 → Prop} {y0 : Int32} (e0 : y0 = 41) (h : post 0) : wpX_isLetter post () y0 := by
  subst e0
  unfold wpX_isLetter
  refine br_t (by decide +kernel) ?_
  exact h
theorem qc_73 {post : Int32 → Prop} {y0 : Int32} (e0 : y0 = 41) (h : post 1) : wpX_isSign post () y0 := by
  subst e0
  unfold wpX_isSign
  refine br_f (by decide +kernel) ?_
  refine br_f (by decide +kernel) ?_
  refine br_f (by decide +kernel) ?_
  refine br_t (by decide +kernel) ?_
  exact h
def qa_1_26 (t : Nat) : Nat → Int32 := upd (qa_1_25 t) 25 41
theorem qc_74 {t : Nat} {va : Nat → Int32} {post : Int32 → St2 → Prop} {y0 : Int32} (e0 : y0 = 41) (h : post 26 (26, 0, 0, 0, 0, 0, 0, 0, 0, 0, 0, 0, 0, 0, 0, (qa_1_26 t), (fun _ => 0), (fun _ => 0), (fun _ => 0), (fun _ => 0), (fun _ => 0), (fun _ => 0), (fun _ => 0), (fun _ => 0), (fun _ => 0), (fun _ => 0), (fun _ => 0), va)) : wpX_feed post (25, 0, 0, 0, 0, 0, 0, 0, 0, 0, 0, 0, 0, 0, 0, (qa_1_25 t), (fun _ => 0), (fun _ => 0), (fun _ => 0), (fun _ => 0), (fun _ => 0), (fun _ => 0), (fun _ => 0), (fun _ => 0), (fun _ => 0), (fun _ => 0), (fun _ => 0), va) y0 := by
  subst e0
  unfold wpX_feed
  dsimp only
  refine qc_71 (by decide +kernel) ?_
  refine br_t (by decide +kernel) ?_
  refine qc_72 (by decide +kernel) ?_
  refine br_t (by decide +kernel) ?_
  refine qc_73 (by decide +kernel) ?_
  refine br_f (by decide +kernel) ?_
  refine br_t (by decide +kernel) ?_
  refine qh_in (by decide +kernel) ?_
  refine nm_r (e' := (qa_1_26 t)) (qh_up (by decide +kernel) (by decide +kernel)) ?_
  refine nm_r (e' := (26 : Int32)) (by decide +kernel) ?_
  exact h
theorem qc_75 {post : Int32 → Prop} {y0 : Int32} (e0 : y0 = 38) (h : post 0) : wpX_isDigit post () y0 := by
  subst e0
  unfold wpX_isDigit
  refine br_t (by decide +kernel) ?_
  exact h
theorem qc_76 {post : Int32 → Prop} {y0 : Int32} (e0 : y0 = 38) (h : post 0) : wpX_isLetter post () y0 := by
  subst e0
  unfold wpX_isLetter
  refine br_t (by decide +kernel) ?_
  exact h
theorem qc_77 {post : Int32 → Prop} {y0 : Int32} (e0 : y0 = 38) (h : post 1) : wpX_isSign post () y0 := by
  subst e0
  unfold wpX_isSign
  refine br_f (by decide +kernel) ?_
  refine br_t (by decide +kernel) ?_
  exact h
def qa_1_27 (t : Nat) : Nat → Int32 := upd (qa_1_26 t) 26 38
theorem qc_78 {t : Nat} {va : Nat → Int32} {post : Int32 → St2 → Prop} {y0 : Int32} (e0 : y0 = 38) (h : post 27 (27, 0, 0, 0, 0, 0, 0, 0, 0, 0, 0, 0, 0, 0, 0, (qa_1_27 t), (fun _ => 0), (fun _ => 0), (fun _ => 0), (fun _ => 0), (fun _ => 0), (fun _ => 0), (fun _ => 0), (fun _ => 0), (fun _ => 0), (fun _ => 0), (fun _ => 0), va)) : wpX_feed post (26, 0, 0, 0, 0, 0, 0, 0, 0, 0, 0, 0, 0, 0, 0, (qa_1_26 t), (fun _ => 0), (fun _ => 0), (fun _ => 0), (fun _ => 0), (fun _ => 0), (fun _ => 0), (fun _ => 0), (fun _ => 0), (fun _ => 0), (fun _ => 0), (fun _ => 0), va) y0 := by
  subst e0
  unfold wpX_feed
  dsimp only
  refine qc_75 (by decide +kernel) ?_
  refine br_t (by decide +kernel) ?_
  refine qc_76 (by decide +kernel) ?_
  refine br_t (by decide +kernel) ?_
  refine qc_77 (by decide +kernel) ?_
  refine br_f (by decide +kernel) ?_
  refine br_t (by decide +kernel) ?_
  refine qh_in (by decide +kernel) ?_
  refine nm_r (e' := (qa_1_27 t)) (qh_up (by decide +kernel) (by decide +kernel)) ?_
  refine nm_r (e' := (27 : Int32)) (by decide +kernel) ?_
  exact h
def qa_1_28 (t : Nat) : Nat → Int32 := upd (qa_1_27 t) 27 97
theorem qc_79 {t : Nat} {va : Nat → Int32} {post : Int32 → St2 → Prop} {y0 : Int32} (e0 : y0 = 97) (h : post 28 (28, 0, 0, 0, 0, 0, 0, 0, 0, 0, 0, 0, 0, 0, 0, (qa_1_28 t), (fun _ => 0), (fun _ => 0), (fun _ => 0), (fun _ => 0), (fun _ => 0), (fun _ => 0), (fun _ => 0), (fun _ => 0), (fun _ => 0), (fun _ => 0), (fun _ => 0), va)) : wpX_feed post (27, 0, 0, 0, 0, 0, 0, 0, 0, 0, 0, 0, 0, 0, 0, (qa_1_27 t), (fun _ => 0), (fun _ => 0), (fun _ => 0), (fun _ => 0), (fun _ => 0), (fun _ => 0), (fun _ => 0), (fun _ => 0), (fun _ => 0), (fun _ => 0), (fun _ => 0), va) y0 := by
  subst e0
  unfold wpX_feed
  dsimp only
  refine qc_10 (by decide +kernel) ?_
  refine br_t (by decide +kernel) ?_
  refine qc_11 (by decide +kernel) ?_
  refine br_f (by decide +kernel) ?_
  refine br_f (by decide +kernel) ?_
  refine br_t (by decide +kernel) ?_
  refine qh_in (by decide +kernel) ?_
  refine nm_r (e' := (qa_1_28 t)) (qh_up (by decide +kernel) (by decide +kernel)) ?_
  refine nm_r (e' := (28 : Int32)) (by decide +kernel) ?_
  exact h
def qa_1_29 (t : Nat) : Nat → Int32 := upd (qa_1_28 t) 28 59
theorem qc_80 {t : Nat} {va : Nat → Int32} {post : Int32 → St2 → Prop} {y0 : Int32} (e0 : y0 = 59) (h : post 29 (29, 0, 0, 0, 0, 0, 0, 0, 0, 0, 0, 0, 0, 0, 0, (qa_1_29 t), (fun _ => 0), (fun _ => 0), (fun _ => 0), (fun _ => 0), (fun _ => 0), (fun _ => 0), (fun _ => 0), (fun _ => 0), (fun _ => 0), (fun _ => 0), (fun _ => 0), va)) : wpX_feed post (28, 0, 0, 0, 0, 0, 0, 0, 0, 0, 0, 0, 0, 0, 0, (qa_1_28 t), (fun _ => 0), (fun _ => 0), (fun _ => 0), (fun _ => 0), (fun _ => 0), (fun _ => 0), (fun _ => 0), (fun _ => 0), (fun _ => 0), (fun _ => 0), (fun _ => 0), va) y0 := by
  subst e0
  unfold wpX_feed
  dsimp only
  refine qc_37 (by decide +kernel) ?_
  refine br_t (by decide +kernel) ?_
  refine qc_38 (by decide +kernel) ?_
  refine br_t (by decide +kernel) ?_
  refine qc_39 (by decide +kernel) ?_
  refine br_f (by decide +kernel) ?_
  refine br_t (by decide +kernel) ?_
  refine qh_in (by decide +kernel) ?_
  refine nm_r (e' := (qa_1_29 t)) (qh_up (by decide +kernel) (by decide +kernel)) ?_
  refine nm_r (e' := (29 : Int32)) (by decide +kernel) ?_
  exact h
def qa_1_30 (t : Nat) : Nat → Int32 := upd (qa_1_29 t) 29 125
theorem qc_81 {t : Nat} {va : Nat → Int32} {post : Int32 → St2 → Prop} {y0 : Int32} (e0 : y0 = 125) (h : post 30 (30, 0, 0, 0, 0, 0, 0, 0, 0, 0, 0, 0, 0, 0, 0, (qa_1_30 t), (fun _ => 0), (fun _ => 0), (fun _ => 0), (fun _ => 0), (fun _ => 0), (fun _ => 0), (fun _ => 0), (fun _ => 0), (fun _ => 0), (fun _ => 0), (fun _ => 0), va)) : wpX_feed post (29, 0, 0, 0, 0, 0, 0, 0, 0, 0, 0, 0, 0, 0, 0, (qa_1_29 t), (fun _ => 0), (fun _ => 0), (fun _ => 0), (fun _ => 0), (fun _ => 0), (fun _ => 0), (fun _ => 0), (fun _ => 0), (fun _ => 0), (fun _ => 0), (fun _ => 0), va) y0 := by
  subst e0
  unfold wpX_feed
  dsimp only
  refine qc_42 (by decide +kernel) ?_
  refine br_t (by decide +kernel) ?_
  refine qc_43 (by decide +kernel) ?_
  refine br_t (by decide +kernel) ?_
  refine qc_44 (by decide +kernel) ?_
  refine br_f (by decide +kernel) ?_
  refine br_t (by decide +kernel) ?_
  refine qh_in (by decide +kernel) ?_
  refine nm_r (e' := (qa_1_30 t)) (qh_up (by decide +kernel) (by decide +kernel)) ?_
  refine nm_r (e' := (30 : Int32)) (by decide +kernel) ?_
  exact h
theorem qc_82 {t : Nat} {va : Nat → Int32} {post : St2 → Prop} {y0 y1 y2 y3 y4 y5 : Int32} (e0 : y0 = 98) (e1 : y1 = 41) (e2 : y2 = 38) (e3 : y3 = 97) (e4 : y4 = 59) (e5 : y5 = 125) (h : post (30, 0, 0, 0, 0, 0, 0, 0, 0, 0, 0, 0, 0, 0, 0, (qa_1_30 t), (fun _ => 0), (fun _ => 0), (fun _ => 0), (fun _ => 0), (fun _ => 0), (fun _ => 0), (fun _ => 0), (fun _ => 0), (fun _ => 0), (fun _ => 0), (fun _ => 0), va)) : wpL_t post (24, 0, 0, 0, 0, 0, 0, 0, 0, 0, 0, 0, 0, 0, 0, (qa_1_24 t), (fun _ => 0), (fun _ => 0), (fun _ => 0), (fun _ => 0), (fun _ => 0), (fun _ => 0), (fun _ => 0), (fun _ => 0), (fun _ => 0), (fun _ => 0), (fun _ => 0), va) y0 y1 y2 y3 y4 y5 := by
  subst e0 e1 e2 e3 e4 e5
  unfold wpL_t
  dsimp only
  refine qc_70 (by decide +kernel) ?_
  dsimp only
  refine qc_74 (by decide +kernel) ?_
  dsimp only
  refine qc_78 (by decide +kernel) ?_
  dsimp only
  refine qc_79 (by decide +kernel) ?_
  dsimp only
  refine qc_80 (by decide +kernel) ?_
  dsimp only
  refine qc_81 (by decide +kernel) ?_
  dsimp only
  exact h
theorem qs_0 {t : Nat} : (qa_1_30 t) 0 = 35 := rfl
theorem qs_1 {t : Nat} : (qa_1_30 t) 1 = (nI (48 + t)) := rfl
theorem qs_2 {t : Nat} : (qa_1_30 t) 2 = 123 := rfl
theorem qs_3 {t : Nat} : (qa_1_30 t) 3 = 97 := rfl
theorem qs_4 {t : Nat} : (qa_1_30 t) 4 = 61 := rfl
theorem qs_5 {t : Nat} : (qa_1_30 t) 5 = 97 := rfl
theorem qs_6 {t : Nat} : (qa_1_30 t) 6 = 43 := rfl
theorem qs_7 {t : Nat} : (qa_1_30 t) 7 = 98 := rfl
theorem qs_8 {t : Nat} : (qa_1_30 t) 8 = 42 := rfl
theorem qs_9 {t : Nat} : (qa_1_30 t) 9 = 45 := rfl
theorem qs_10 {t : Nat} : (qa_1_30 t) 10 = 99 := rfl
theorem qs_11 {t : Nat} : (qa_1_30 t) 11 = 59 := rfl
theorem qs_12 {t : Nat} : (qa_1_30 t) 12 = 125 := rfl
theorem qs_13 {t : Nat} : (qa_1_30 t) 13 = 63 := rfl
theorem qs_14 {t : Nat} : (qa_1_30 t) 14 = 98 := rfl
theorem qs_15 {t : Nat} : (qa_1_30 t) 15 = 60 := rfl
theorem qs_16 {t : Nat} : (qa_1_30 t) 16 = 99 := rfl
theorem qs_17 {t : Nat} : (qa_1_30 t) 17 = 123 := rfl
theorem qs_18 {t : Nat} : (qa_1_30 t) 18 = 100 := rfl
theorem qs_19 {t : Nat} : (qa_1_30 t) 19 = 61 := rfl
theorem qs_20 {t : Nat} : (qa_1_30 t) 20 = 45 := rfl
theorem qs_21 {t : Nat} : (qa_1_30 t) 21 = 40 := rfl
theorem qs_22 {t : Nat} : (qa_1_30 t) 22 = 99 := rfl
theorem qs_23 {t : Nat} : (qa_1_30 t) 23 = 45 := rfl
theorem qs_24 {t : Nat} : (qa_1_30 t) 24 = 98 := rfl
theorem qs_25 {t : Nat} : (qa_1_30 t) 25 = 41 := rfl
theorem qs_26 {t : Nat} : (qa_1_30 t) 26 = 38 := rfl
theorem qs_27 {t : Nat} : (qa_1_30 t) 27 = 97 := rfl
theorem qs_28 {t : Nat} : (qa_1_30 t) 28 = 59 := rfl
theorem qs_29 {t : Nat} : (qa_1_30 t) 29 = 125 := rfl
end
section
theorem qc_83 {t : Nat} {va : Nat → Int32} {post : Int32 → St2 → Prop} {y0 : Int32} (e0 : y0 = 123) (h : post 1 (30, 3, 0, 0, 0, 0, 0, 0, 0, 0, 0, 0, 0, 0, 0, (qa_1_30 t), (fun _ => 0), (fun _ => 0), (fun _ => 0), (fun _ => 0), (fun _ => 0), (fun _ => 0), (fun _ => 0), (fun _ => 0), (fun _ => 0), (fun _ => 0), (fun _ => 0), va)) : wpX_accept post (30, 2, 0, 0, 0, 0, 0, 0, 0, 0, 0, 0, 0, 0, 0, (qa_1_30 t), (fun _ => 0), (fun _ => 0), (fun _ => 0), (fun _ => 0), (fun _ => 0), (fun _ => 0), (fun _ => 0), (fun _ => 0), (fun _ => 0), (fun _ => 0), (fun _ => 0), va) y0 := by
  subst e0
  unfold wpX_accept
  dsimp only
  refine qh_peek (k := 2) (q := 123) (by decide +kernel) (by decide +kernel) (by decide +kernel) qs_2 (by decide +kernel) (by omega) ?_
  refine br_t (by decide +kernel) ?_
  refine nm_r (e' := (3 : Int32)) (by decide +kernel) ?_
  exact h
def qa_8_1 : Nat → Int32 := upd (fun _ => 0) 0 0
def qa_9_1 : Nat → Int32 := upd (fun _ => 0) 0 12
def qa_10_1 (t : Nat) : Nat → Int32 := upd (fun _ => 0) 0 (nI (48 + t) - 48)
theorem qc_84 {t : Nat} {va : Nat → Int32} {post : St2 → Prop} {y0 y1 : Int32} (e0 : y0 = 12) (e1 : y1 = (nI (48 + t) - 48)) (h : post (30, 3, 0, 0, 0, 0, 0, 0, 1, 0, 1, 0, 0, 0, 0, (qa_1_30 t), (fun _ => 0), (fun _ => 0), (fun _ => 0), (fun _ => 0), (fun _ => 0), (fun _ => 0), qa_8_1, qa_9_1, (qa_10_1 t), (fun _ => 0), (fun _ => 0), va)) : wpX_put post (30, 3, 0, 0, 0, 0, 0, 0, 1, 0, 0, 0, 0, 0, 0, (qa_1_30 t), (fun _ => 0), (fun _ => 0), (fun _ => 0), (fun _ => 0), (fun _ => 0), (fun _ => 0), qa_8_1, (fun _ => 0), (fun _ => 0), (fun _ => 0), (fun _ => 0), va) y0 y1 := by
  subst e0 e1
  unfold wpX_put
  dsimp only
  refine br_t (by decide +kernel) ?_
  refine qh_in (by decide +kernel) ?_
  refine nm_r (e' := qa_9_1) (qh_up (by decide +kernel) (by decide +kernel)) ?_
  refine qh_in (by decide +kernel) ?_
  refine nm_r (e' := (qa_10_1 t)) (qh_up (by decide +kernel) rfl) ?_
  refine nm_r (e' := (1 : Int32)) (by decide +kernel) ?_
  exact h
theorem qc_85 {t : Nat} {va : Nat → Int32} {post : St2 → Prop} {y0 y1 : Int32} (e0 : y0 = 12) (e1 : y1 = (nI (48 + t) - 48)) (h : post (30, 3, 0, 0, 0, 0, 0, 0, 1, 0, 1, 0, 0, 0, 0, (qa_1_30 t), (fun _ => 0), (fun _ => 0), (fun _ => 0), (fun _ => 0), (fun _ => 0), (fun _ => 0), qa_8_1, qa_9_1, (qa_10_1 t), (fun _ => 0), (fun _ => 0), va)) : wpX_open post (30, 3, 0, 0, 0, 0, 0, 0, 0, 0, 0, 0, 0, 0, 0, (qa_1_30 t), (fun _ => 0), (fun _ => 0), (fun _ => 0), (fun _ => 0), (fun _ => 0), (fun _ => 0), (fun _ => 0), (fun _ => 0), (fun _ => 0), (fun _ => 0), (fun _ => 0), va) y0 y1 := by
  subst e0 e1
  unfold wpX_open
  dsimp only
  refine br_f (by decide +kernel) ?_
  refine qh_in (by decide +kernel) ?_
  refine nm_r (e' := qa_8_1) (qh_up (by decide +kernel) (by decide +kernel)) ?_
  refine nm_r (e' := (1 : Int32)) (by decide +kernel) ?_
  refine br_t (by decide +kernel) ?_
  refine qc_84 (by decide +kernel) rfl ?_
  dsimp only
  exact h
theorem qc_86 {t : Nat} {va : Nat → Int32} {post : St2 → Prop} (ht : t < 10) (h : post (30, 3, 0, 0, 0, 0, 0, 0, 1, 0, 1, 0, 0, 0, 0, (qa_1_30 t), (fun _ => 0), (fun _ => 0), (fun _ => 0), (fun _ => 0), (fun _ => 0), (fun _ => 0), qa_8_1, qa_9_1, (qa_10_1 t), (fun _ => 0), (fun _ => 0), va)) : wpX_turns post (30, 1, 0, 0, 0, 0, 0, 0, 0, 0, 0, 0, 0, 0, 0, (qa_1_30 t), (fun _ => 0), (fun _ => 0), (fun _ => 0), (fun _ => 0), (fun _ => 0), (fun _ => 0), (fun _ => 0), (fun _ => 0), (fun _ => 0), (fun _ => 0), (fun _ => 0), va) := by
  unfold wpX_turns
  dsimp only
  refine qh_peek (k := 1) (q := 48 + t) (by decide +kernel) (by decide +kernel) (by decide +kernel) qs_1 rfl (by omega) ?_
  refine qh_digT ht ?_
  refine br_f (by decide +kernel) ?_
  refine nm_r (e' := (2 : Int32)) (by decide +kernel) ?_
  refine qc_83 (by decide +kernel) ?_
  dsimp only
  refine qc_85 (by decide +kernel) rfl ?_
  dsimp only
  exact h
theorem qc_87 {t : Nat} {va : Nat → Int32} {post : St2 → Prop} (ht : t < 10) (h : post (30, 3, 0, 0, 0, 0, 0, 0, 1, 0, 1, 0, 0, 0, 0, (qa_1_30 t), (fun _ => 0), (fun _ => 0), (fun _ => 0), (fun _ => 0), (fun _ => 0), (fun _ => 0), qa_8_1, qa_9_1, (qa_10_1 t), (fun _ => 0), (fun _ => 0), va)) : wpX_statement post (30, 0, 0, 0, 0, 0, 0, 0, 0, 0, 0, 0, 0, 0, 0, (qa_1_30 t), (fun _ => 0), (fun _ => 0), (fun _ => 0), (fun _ => 0), (fun _ => 0), (fun _ => 0), (fun _ => 0), (fun _ => 0), (fun _ => 0), (fun _ => 0), (fun _ => 0), va) := by
  unfold wpX_statement
  dsimp only
  refine qh_peek (k := 0) (q := 35) (by decide +kernel) (by decide +kernel) (by decide +kernel) qs_0 (by decide +kernel) (by omega) ?_
  refine nm_r (e' := (1 : Int32)) (by decide +kernel) ?_
  refine qc_2 (by decide +kernel) ?_
  refine br_t (by decide +kernel) ?_
  refine br_f (by decide +kernel) ?_
  refine br_t (by decide +kernel) ?_
  refine qc_86 ht ?_
  dsimp only
  exact h
theorem qc_88 {t : Nat} {va : Nat → Int32} {post : Int32 → St2 → Prop} {y0 : Int32} (e0 : y0 = 61) (h : post 1 (30, 5, 0, 0, 0, 0, 0, 0, 1, 0, 1, 0, 0, 0, 0, (qa_1_30 t), (fun _ => 0), (fun _ => 0), (fun _ => 0), (fun _ => 0), (fun _ => 0), (fun _ => 0), qa_8_1, qa_9_1, (qa_10_1 t), (fun _ => 0), (fun _ => 0), va)) : wpX_accept post (30, 4, 0, 0, 0, 0, 0, 0, 1, 0, 1, 0, 0, 0, 0, (qa_1_30 t), (fun _ => 0), (fun _ => 0), (fun _ => 0), (fun _ => 0), (fun _ => 0), (fun _ => 0), qa_8_1, qa_9_1, (qa_10_1 t), (fun _ => 0), (fun _ => 0), va) y0 := by
  subst e0
  unfold wpX_accept
  dsimp only
  refine qh_peek (k := 4) (q := 61) (by decide +kernel) (by decide +kernel) (by decide +kernel) qs_4 (by decide +kernel) (by omega) ?_
  refine br_t (by decide +kernel) ?_
  refine nm_r (e' := (5 : Int32)) (by decide +kernel) ?_
  exact h
def qa_2_1 : Nat → Int32 := upd (fun _ => 0) 0 2
def qa_4_1 : Nat → Int32 := upd (fun _ => 0) 0 (-1)
theorem qc_89 {t : Nat} {va : Nat → Int32} {post : Int32 → St2 → Prop} {y0 y1 y2 : Int32} (e0 : y0 = 2) (e1 : y1 = 0) (e2 : y2 = (-1)) (h : post 0 (30, 5, 0, 0, 1, 0, 0, 0, 1, 0, 1, 0, 0, 0, 0, (qa_1_30 t), qa_2_1, qa_8_1, qa_4_1, (fun _ => 0), (fun _ => 0), (fun _ => 0), qa_8_1, qa_9_1, (qa_10_1 t), (fun _ => 0), (fun _ => 0), va)) : wpX_newNode post (30, 5, 0, 0, 0, 0, 0, 0, 1, 0, 1, 0, 0, 0, 0, (qa_1_30 t), (fun _ => 0), (fun _ => 0), (fun _ => 0), (fun _ => 0), (fun _ => 0), (fun _ => 0), qa_8_1, qa_9_1, (qa_10_1 t), (fun _ => 0), (fun _ => 0), va) y0 y1 y2 := by
  subst e0 e1 e2
  unfold wpX_newNode
  dsimp only
  refine br_f (by decide +kernel) ?_
  refine qh_in (by decide +kernel) ?_
  refine nm_r (e' := qa_2_1) (qh_up (by decide +kernel) (by decide +kernel)) ?_
  refine qh_in (by decide +kernel) ?_
  refine nm_r (e' := qa_8_1) (qh_up (by decide +kernel) (by decide +kernel)) ?_
  refine qh_in (by decide +kernel) ?_
  refine nm_r (e' := qa_4_1) (qh_up (by decide +kernel) (by decide +kernel)) ?_
  refine nm_r (e' := (1 : Int32)) (by decide +kernel) ?_
  exact h
theorem qc_90 {t : Nat} {va : Nat → Int32} {post : St2 → Prop} {y0 : Int32} (e0 : y0 = 0) (h : post (30, 5, 0, 0, 1, 1, 0, 0, 1, 0, 1, 0, 0, 0, 0, (qa_1_30 t), qa_2_1, qa_8_1, qa_4_1, (fun _ => 0), qa_8_1, (fun _ => 0), qa_8_1, qa_9_1, (qa_10_1 t), (fun _ => 0), (fun _ => 0), va)) : wpX_pushTree post (30, 5, 0, 0, 1, 0, 0, 0, 1, 0, 1, 0, 0, 0, 0, (qa_1_30 t), qa_2_1, qa_8_1, qa_4_1, (fun _ => 0), (fun _ => 0), (fun _ => 0), qa_8_1, qa_9_1, (qa_10_1 t), (fun _ => 0), (fun _ => 0), va) y0 := by
  subst e0
  unfold wpX_pushTree
  dsimp only
  refine br_t (by decide +kernel) ?_
  refine qh_in (by decide +kernel) ?_
  refine nm_r (e' := qa_8_1) (qh_up (by decide +kernel) (by decide +kernel)) ?_
  refine nm_r (e' := (1 : Int32)) (by decide +kernel) ?_
  exact h
theorem qc_91 {t : Nat} {va : Nat → Int32} {post : St2 → Prop} (h : post (30, 6, 0, 0, 1, 1, 0, 0, 1, 0, 1, 0, 0, 0, 0, (qa_1_30 t), qa_2_1, qa_8_1, qa_4_1, (fun _ => 0), qa_8_1, (fun _ => 0), qa_8_1, qa_9_1, (qa_10_1 t), (fun _ => 0), (fun _ => 0), va)) : wpX_factorDone post (30, 6, 0, 0, 1, 1, 0, 0, 1, 0, 1, 0, 0, 0, 0, (qa_1_30 t), qa_2_1, qa_8_1, qa_4_1, (fun _ => 0), qa_8_1, (fun _ => 0), qa_8_1, qa_9_1, (qa_10_1 t), (fun _ => 0), (fun _ => 0), va) := by
  unfold wpX_factorDone
  dsimp only
  refine Exists.intro 1 ?_
  refine br_f (by decide +kernel) ?_
  refine br_t (by decide +kernel) ?_
  exact h
theorem qc_92 {t : Nat} {va : Nat → Int32} {post : Int32 → St2 → Prop} (h : post 1 (30, 6, 0, 0, 1, 1, 0, 0, 1, 0, 1, 0, 0, 0, 0, (qa_1_30 t), qa_2_1, qa_8_1, qa_4_1, (fun _ => 0), qa_8_1, (fun _ => 0), qa_8_1, qa_9_1, (qa_10_1 t), (fun _ => 0), (fun _ => 0), va)) : wpX_readOperand post (30, 5, 0, 0, 0, 0, 0, 0, 1, 0, 1, 0, 0, 0, 0, (qa_1_30 t), (fun _ => 0), (fun _ => 0), (fun _ => 0), (fun _ => 0), (fun _ => 0), (fun _ => 0), qa_8_1, qa_9_1, (qa_10_1 t), (fun _ => 0), (fun _ => 0), va) := by
  unfold wpX_readOperand
  dsimp only
  refine qh_peek (k := 5) (q := 97) (by decide +kernel) (by decide +kernel) (by decide +kernel) qs_5 (by decide +kernel) (by omega) ?_
  refine qc_10 (by decide +kernel) ?_
  refine br_t (by decide +kernel) ?_
  refine qc_11 (by decide +kernel) ?_
  refine br_f (by decide +kernel) ?_
  refine qc_89 (by decide +kernel) (by decide +kernel) (by decide +kernel) ?_
  dsimp only
  refine qc_90 (by decide +kernel) ?_
  dsimp only
  refine nm_r (e' := (6 : Int32)) (by decide +kernel) ?_
  refine qc_91 ?_
  dsimp only
  exact h
theorem qc_93 {post : Int32 → Prop} {y0 : Int32} (e0 : y0 = 43) (h : post 3) : wpX_binary post () y0 := by
  subst e0
  unfold wpX_binary
  refine br_f (by decide +kernel) ?_
  refine br_f (by decide +kernel) ?_
  refine br_t (by decide +kernel) ?_
  exact h
theorem qc_94 {post : Int32 → Prop} {y0 : Int32} (e0 : y0 = 3) (h : post 1) : wpX_rank post () y0 := by
  subst e0
  unfold wpX_rank
  refine br_t (by decide +kernel) ?_
  exact h
theorem qc_95 {t : Nat} {va : Nat → Int32} {post : St2 → Prop} {y0 : Int32} (e0 : y0 = 1) (h : post (30, 6, 0, 0, 1, 1, 0, 0, 1, 0, 1, 0, 0, 0, 0, (qa_1_30 t), qa_2_1, qa_8_1, qa_4_1, (fun _ => 0), qa_8_1, (fun _ => 0), qa_8_1, qa_9_1, (qa_10_1 t), (fun _ => 0), (fun _ => 0), va)) : wpX_reduceTo post (30, 6, 0, 0, 1, 1, 0, 0, 1, 0, 1, 0, 0, 0, 0, (qa_1_30 t), qa_2_1, qa_8_1, qa_4_1, (fun _ => 0), qa_8_1, (fun _ => 0), qa_8_1, qa_9_1, (qa_10_1 t), (fun _ => 0), (fun _ => 0), va) y0 := by
  subst e0
  unfold wpX_reduceTo
  dsimp only
  refine Exists.intro 1 ?_
  refine br_f (by decide +kernel) ?_
  refine br_t (by decide +kernel) ?_
  exact h
def qa_7_1 : Nat → Int32 := upd (fun _ => 0) 0 3
theorem qc_96 {t : Nat} {va : Nat → Int32} {post : St2 → Prop} {y0 : Int32} (e0 : y0 = 3) (h : post (30, 6, 0, 0, 1, 1, 1, 0, 1, 0, 1, 0, 0, 0, 0, (qa_1_30 t), qa_2_1, qa_8_1, qa_4_1, (fun _ => 0), qa_8_1, qa_7_1, qa_8_1, qa_9_1, (qa_10_1 t), (fun _ => 0), (fun _ => 0), va)) : wpX_pushWait post (30, 6, 0, 0, 1, 1, 0, 0, 1, 0, 1, 0, 0, 0, 0, (qa_1_30 t), qa_2_1, qa_8_1, qa_4_1, (fun _ => 0), qa_8_1, (fun _ => 0), qa_8_1, qa_9_1, (qa_10_1 t), (fun _ => 0), (fun _ => 0), va) y0 := by
  subst e0
  unfold wpX_pushWait
  dsimp only
  refine br_t (by decide +kernel) ?_
  refine qh_in (by decide +kernel) ?_
  refine nm_r (e' := qa_7_1) (qh_up (by decide +kernel) (by decide +kernel)) ?_
  refine nm_r (e' := (1 : Int32)) (by decide +kernel) ?_
  refine br_f (by decide +kernel) ?_
  refine br_f (by decide +kernel) ?_
  exact h
theorem qc_97 {t : Nat} {va : Nat → Int32} {post : Int32 → St2 → Prop} (h : post 1 (30, 7, 0, 0, 1, 1, 1, 0, 1, 0, 1, 0, 0, 0, 0, (qa_1_30 t), qa_2_1, qa_8_1, qa_4_1, (fun _ => 0), qa_8_1, qa_7_1, qa_8_1, qa_9_1, (qa_10_1 t), (fun _ => 0), (fun _ => 0), va)) : wpX_readOperator post (30, 6, 0, 0, 1, 1, 0, 0, 1, 0, 1, 0, 0, 0, 0, (qa_1_30 t), qa_2_1, qa_8_1, qa_4_1, (fun _ => 0), qa_8_1, (fun _ => 0), qa_8_1, qa_9_1, (qa_10_1 t), (fun _ => 0), (fun _ => 0), va) := by
  unfold wpX_readOperator
  dsimp only
  refine qh_peek (k := 6) (q := 43) (by decide +kernel) (by decide +kernel) (by decide +kernel) qs_6 (by decide +kernel) (by omega) ?_
  refine qc_93 (by decide +kernel) ?_
  refine br_f (by decide +kernel) ?_
  refine qc_94 (by decide +kernel) ?_
  refine qc_95 (by decide +kernel) ?_
  dsimp only
  refine qc_96 (by decide +kernel) ?_
  dsimp only
  refine nm_r (e' := (7 : Int32)) (by decide +kernel) ?_
  exact h
def qa_2_2 : Nat → Int32 := upd qa_2_1 1 2
def qa_8_2 : Nat → Int32 := upd qa_8_1 1 1
def qa_4_2 : Nat → Int32 := upd qa_4_1 1 (-1)
theorem qc_98 {t : Nat} {va : Nat → Int32} {post : Int32 → St2 → Prop} {y0 y1 y2 : Int32} (e0 : y0 = 2) (e1 : y1 = 1) (e2 : y2 = (-1)) (h : post 1 (30, 7, 0, 0, 2, 1, 1, 0, 1, 0, 1, 0, 0, 0, 0, (qa_1_30 t), qa_2_2, qa_8_2, qa_4_2, (fun _ => 0), qa_8_1, qa_7_1, qa_8_1, qa_9_1, (qa_10_1 t), (fun _ => 0), (fun _ => 0), va)) : wpX_newNode post (30, 7, 0, 0, 1, 1, 1, 0, 1, 0, 1, 0, 0, 0, 0, (qa_1_30 t), qa_2_1, qa_8_1, qa_4_1, (fun _ => 0), qa_8_1, qa_7_1, qa_8_1, qa_9_1, (qa_10_1 t), (fun _ => 0), (fun _ => 0), va) y0 y1 y2 := by
  subst e0 e1 e2
  unfold wpX_newNode
  dsimp only
  refine br_f (by decide +kernel) ?_
  refine qh_in (by decide +kernel) ?_
  refine nm_r (e' := qa_2_2) (qh_up (by decide +kernel) (by decide +kernel)) ?_
  refine qh_in (by decide +kernel) ?_
  refine nm_r (e' := qa_8_2) (qh_up (by decide +kernel) (by decide +kernel)) ?_
  refine qh_in (by decide +kernel) ?_
  refine nm_r (e' := qa_4_2) (qh_up (by decide +kernel) (by decide +kernel)) ?_
  refine nm_r (e' := (2 : Int32)) (by decide +kernel) ?_
  exact h
theorem qc_99 {t : Nat} {va : Nat → Int32} {post : St2 → Prop} {y0 : Int32} (e0 : y0 = 1) (h : post (30, 7, 0, 0, 2, 2, 1, 0, 1, 0, 1, 0, 0, 0, 0, (qa_1_30 t), qa_2_2, qa_8_2, qa_4_2, (fun _ => 0), qa_8_2, qa_7_1, qa_8_1, qa_9_1, (qa_10_1 t), (fun _ => 0), (fun _ => 0), va)) : wpX_pushTree post (30, 7, 0, 0, 2, 1, 1, 0, 1, 0, 1, 0, 0, 0, 0, (qa_1_30 t), qa_2_2, qa_8_2, qa_4_2, (fun _ => 0), qa_8_1, qa_7_1, qa_8_1, qa_9_1, (qa_10_1 t), (fun _ => 0), (fun _ => 0), va) y0 := by
  subst e0
  unfold wpX_pushTree
  dsimp only
  refine br_t (by decide +kernel) ?_
  refine qh_in (by decide +kernel) ?_
  refine nm_r (e' := qa_8_2) (qh_up (by decide +kernel) (by decide +kernel)) ?_
  refine nm_r (e' := (2 : Int32)) (by decide +kernel) ?_
  exact h
theorem qc_100 {t : Nat} {va : Nat → Int32} {post : St2 → Prop} (h : post (30, 8, 0, 0, 2, 2, 1, 0, 1, 0, 1, 0, 0, 0, 0, (qa_1_30 t), qa_2_2, qa_8_2, qa_4_2, (fun _ => 0), qa_8_2, qa_7_1, qa_8_1, qa_9_1, (qa_10_1 t), (fun _ => 0), (fun _ => 0), va)) : wpX_factorDone post (30, 8, 0, 0, 2, 2, 1, 0, 1, 0, 1, 0, 0, 0, 0, (qa_1_30 t), qa_2_2, qa_8_2, qa_4_2, (fun _ => 0), qa_8_2, qa_7_1, qa_8_1, qa_9_1, (qa_10_1 t), (fun _ => 0), (fun _ => 0), va) := by
  unfold wpX_factorDone
  dsimp only
  refine Exists.intro 1 ?_
  refine br_f (by decide +kernel) ?_
  refine br_f (by decide +kernel) ?_
  refine qh_in (by decide +kernel) ?_
  refine br_f (by decide +kernel) ?_
  exact h
theorem qc_101 {t : Nat} {va : Nat → Int32} {post : Int32 → St2 → Prop} (h : post 1 (30, 8, 0, 0, 2, 2, 1, 0, 1, 0, 1, 0, 0, 0, 0, (qa_1_30 t), qa_2_2, qa_8_2, qa_4_2, (fun _ => 0), qa_8_2, qa_7_1, qa_8_1, qa_9_1, (qa_10_1 t), (fun _ => 0), (fun _ => 0), va)) : wpX_readOperand post (30, 7, 0, 0, 1, 1, 1, 0, 1, 0, 1, 0, 0, 0, 0, (qa_1_30 t), qa_2_1, qa_8_1, qa_4_1, (fun _ => 0), qa_8_1, qa_7_1, qa_8_1, qa_9_1, (qa_10_1 t), (fun _ => 0), (fun _ => 0), va) := by
  unfold wpX_readOperand
  dsimp only
  refine qh_peek (k := 7) (q := 98) (by decide +kernel) (by decide +kernel) (by decide +kernel) qs_7 (by decide +kernel) (by omega) ?_
  refine qc_23 (by decide +kernel) ?_
  refine br_t (by decide +kernel) ?_
  refine qc_24 (by decide +kernel) ?_
  refine br_f (by decide +kernel) ?_
  refine qc_98 (by decide +kernel) (by decide +kernel) (by decide +kernel) ?_
  dsimp only
  refine qc_99 (by decide +kernel) ?_
  dsimp only
  refine nm_r (e' := (8 : Int32)) (by decide +kernel) ?_
  refine qc_100 ?_
  dsimp only
  exact h
theorem qc_102 {post : Int32 → Prop} {y0 : Int32} (e0 : y0 = 42) (h : post 5) : wpX_binary post () y0 := by
  subst e0
  unfold wpX_binary
  refine br_f (by decide +kernel) ?_
  refine br_t (by decide +kernel) ?_
  exact h
theorem qc_103 {post : Int32 → Prop} {y0 : Int32} (e0 : y0 = 5) (h : post 2) : wpX_rank post () y0 := by
  subst e0
  unfold wpX_rank
  refine br_f (by decide +kernel) ?_
  refine br_f (by decide +kernel) ?_
  refine br_f (by decide +kernel) ?_
  refine br_f (by decide +kernel) ?_
  exact h
theorem qc_104 {t : Nat} {va : Nat → Int32} {post : St2 → Prop} {y0 : Int32} (e0 : y0 = 2) (h : post (30, 8, 0, 0, 2, 2, 1, 0, 1, 0, 1, 0, 0, 0, 0, (qa_1_30 t), qa_2_2, qa_8_2, qa_4_2, (fun _ => 0), qa_8_2, qa_7_1, qa_8_1, qa_9_1, (qa_10_1 t), (fun _ => 0), (fun _ => 0), va)) : wpX_reduceTo post (30, 8, 0, 0, 2, 2, 1, 0, 1, 0, 1, 0, 0, 0, 0, (qa_1_30 t), qa_2_2, qa_8_2, qa_4_2, (fun _ => 0), qa_8_2, qa_7_1, qa_8_1, qa_9_1, (qa_10_1 t), (fun _ => 0), (fun _ => 0), va) y0 := by
  subst e0
  unfold wpX_reduceTo
  dsimp only
  refine Exists.intro 1 ?_
  refine br_f (by decide +kernel) ?_
  refine br_f (by decide +kernel) ?_
  refine qh_in (by decide +kernel) ?_
  refine qc_94 (by decide +kernel) ?_
  refine br_t (by decide +kernel) ?_
  exact h
def qa_7_2 : Nat → Int32 := upd qa_7_1 1 5
theorem qc_105 {t : Nat} {va : Nat → Int32} {post : St2 → Prop} {y0 : Int32} (e0 : y0 = 5) (h : post (30, 8, 0, 0, 2, 2, 2, 0, 1, 0, 1, 0, 0, 0, 0, (qa_1_30 t), qa_2_2, qa_8_2, qa_4_2, (fun _ => 0), qa_8_2, qa_7_2, qa_8_1, qa_9_1, (qa_10_1 t), (fun _ => 0), (fun _ => 0), va)) : wpX_pushWait post (30, 8, 0, 0, 2, 2, 1, 0, 1, 0, 1, 0, 0, 0, 0, (qa_1_30 t), qa_2_2, qa_8_2, qa_4_2, (fun _ => 0), qa_8_2, qa_7_1, qa_8_1, qa_9_1, (qa_10_1 t), (fun _ => 0), (fun _ => 0), va) y0 := by
  subst e0
  unfold wpX_pushWait
  dsimp only
  refine br_t (by decide +kernel) ?_
  refine qh_in (by decide +kernel) ?_
  refine nm_r (e' := qa_7_2) (qh_up (by decide +kernel) (by decide +kernel)) ?_
  refine nm_r (e' := (2 : Int32)) (by decide +kernel) ?_
  refine br_f (by decide +kernel) ?_
  refine br_f (by decide +kernel) ?_
  exact h
theorem qc_106 {t : Nat} {va : Nat → Int32} {post : Int32 → St2 → Prop} (h : post 1 (30, 9, 0, 0, 2, 2, 2, 0, 1, 0, 1, 0, 0, 0, 0, (qa_1_30 t), qa_2_2, qa_8_2, qa_4_2, (fun _ => 0), qa_8_2, qa_7_2, qa_8_1, qa_9_1, (qa_10_1 t), (fun _ => 0), (fun _ => 0), va)) : wpX_readOperator post (30, 8, 0, 0, 2, 2, 1, 0, 1, 0, 1, 0, 0, 0, 0, (qa_1_30 t), qa_2_2, qa_8_2, qa_4_2, (fun _ => 0), qa_8_2, qa_7_1, qa_8_1, qa_9_1, (qa_10_1 t), (fun _ => 0), (fun _ => 0), va) := by
  unfold wpX_readOperator
  dsimp only
  refine qh_peek (k := 8) (q := 42) (by decide +kernel) (by decide +kernel) (by decide +kernel) qs_8 (by decide +kernel) (by omega) ?_
  refine qc_102 (by decide +kernel) ?_
  refine br_f (by decide +kernel) ?_
  refine qc_103 (by decide +kernel) ?_
  refine qc_104 (by decide +kernel) ?_
  dsimp only
  refine qc_105 (by decide +kernel) ?_
  dsimp only
  refine nm_r (e' := (9 : Int32)) (by decide +kernel) ?_
  exact h
def qa_7_3 : Nat → Int32 := upd qa_7_2 2 8
theorem qc_107 {t : Nat} {va : Nat → Int32} {post : St2 → Prop} {y0 : Int32} (e0 : y0 = 8) (h : post (30, 9, 0, 0, 2, 2, 3, 1, 1, 0, 1, 0, 0, 0, 0, (qa_1_30 t), qa_2_2, qa_8_2, qa_4_2, (fun _ => 0), qa_8_2, qa_7_3, qa_8_1, qa_9_1, (qa_10_1 t), (fun _ => 0), (fun _ => 0), va)) : wpX_pushWait post (30, 9, 0, 0, 2, 2, 2, 0, 1, 0, 1, 0, 0, 0, 0, (qa_1_30 t), qa_2_2, qa_8_2, qa_4_2, (fun _ => 0), qa_8_2, qa_7_2, qa_8_1, qa_9_1, (qa_10_1 t), (fun _ => 0), (fun _ => 0), va) y0 := by
  subst e0
  unfold wpX_pushWait
  dsimp only
  refine br_t (by decide +kernel) ?_
  refine qh_in (by decide +kernel) ?_
  refine nm_r (e' := qa_7_3) (qh_up (by decide +kernel) (by decide +kernel)) ?_
  refine nm_r (e' := (3 : Int32)) (by decide +kernel) ?_
  refine br_t (by decide +kernel) ?_
  refine nm_r (e' := (1 : Int32)) (by decide +kernel) ?_
  refine br_t (by decide +kernel) ?_
  exact h
theorem qc_108 {t : Nat} {va : Nat → Int32} {post : Int32 → St2 → Prop} (h : post 0 (30, 10, 0, 0, 2, 2, 3, 1, 1, 0, 1, 0, 0, 0, 0, (qa_1_30 t), qa_2_2, qa_8_2, qa_4_2, (fun _ => 0), qa_8_2, qa_7_3, qa_8_1, qa_9_1, (qa_10_1 t), (fun _ => 0), (fun _ => 0), va)) : wpX_readOperand post (30, 9, 0, 0, 2, 2, 2, 0, 1, 0, 1, 0, 0, 0, 0, (qa_1_30 t), qa_2_2, qa_8_2, qa_4_2, (fun _ => 0), qa_8_2, qa_7_2, qa_8_1, qa_9_1, (qa_10_1 t), (fun _ => 0), (fun _ => 0), va) := by
  unfold wpX_readOperand
  dsimp only
  refine qh_peek (k := 9) (q := 45) (by decide +kernel) (by decide +kernel) (by decide +kernel) qs_9 (by decide +kernel) (by omega) ?_
  refine qc_30 (by decide +kernel) ?_
  refine br_t (by decide +kernel) ?_
  refine qc_31 (by decide +kernel) ?_
  refine br_t (by decide +kernel) ?_
  refine br_f (by decide +kernel) ?_
  refine br_t (by decide +kernel) ?_
  refine qc_107 (by decide +kernel) ?_
  dsimp only
  refine nm_r (e' := (10 : Int32)) (by decide +kernel) ?_
  exact h
def qa_2_3 : Nat → Int32 := upd qa_2_2 2 2
def qa_8_3 : Nat → Int32 := upd qa_8_2 2 2
def qa_4_3 : Nat → Int32 := upd qa_4_2 2 (-1)
theorem qc_109 {t : Nat} {va : Nat → Int32} {post : Int32 → St2 → Prop} {y0 y1 y2 : Int32} (e0 : y0 = 2) (e1 : y1 = 2) (e2 : y2 = (-1)) (h : post 2 (30, 10, 0, 0, 3, 2, 3, 1, 1, 0, 1, 0, 0, 0, 0, (qa_1_30 t), qa_2_3, qa_8_3, qa_4_3, (fun _ => 0), qa_8_2, qa_7_3, qa_8_1, qa_9_1, (qa_10_1 t), (fun _ => 0), (fun _ => 0), va)) : wpX_newNode post (30, 10, 0, 0, 2, 2, 3, 1, 1, 0, 1, 0, 0, 0, 0, (qa_1_30 t), qa_2_2, qa_8_2, qa_4_2, (fun _ => 0), qa_8_2, qa_7_3, qa_8_1, qa_9_1, (qa_10_1 t), (fun _ => 0), (fun _ => 0), va) y0 y1 y2 := by
  subst e0 e1 e2
  unfold wpX_newNode
  dsimp only
  refine br_f (by decide +kernel) ?_
  refine qh_in (by decide +kernel) ?_
  refine nm_r (e' := qa_2_3) (qh_up (by decide +kernel) (by decide +kernel)) ?_
  refine qh_in (by decide +kernel) ?_
  refine nm_r (e' := qa_8_3) (qh_up (by decide +kernel) (by decide +kernel)) ?_
  refine qh_in (by decide +kernel) ?_
  refine nm_r (e' := qa_4_3) (qh_up (by decide +kernel) (by decide +kernel)) ?_
  refine nm_r (e' := (3 : Int32)) (by decide +kernel) ?_
  exact h
theorem qc_110 {t : Nat} {va : Nat → Int32} {post : St2 → Prop} {y0 : Int32} (e0 : y0 = 2) (h : post (30, 10, 0, 0, 3, 3, 3, 1, 1, 0, 1, 0, 0, 0, 0, (qa_1_30 t), qa_2_3, qa_8_3, qa_4_3, (fun _ => 0), qa_8_3, qa_7_3, qa_8_1, qa_9_1, (qa_10_1 t), (fun _ => 0), (fun _ => 0), va)) : wpX_pushTree post (30, 10, 0, 0, 3, 2, 3, 1, 1, 0, 1, 0, 0, 0, 0, (qa_1_30 t), qa_2_3, qa_8_3, qa_4_3, (fun _ => 0), qa_8_2, qa_7_3, qa_8_1, qa_9_1, (qa_10_1 t), (fun _ => 0), (fun _ => 0), va) y0 := by
  subst e0
  unfold wpX_pushTree
  dsimp only
  refine br_t (by decide +kernel) ?_
  refine qh_in (by decide +kernel) ?_
  refine nm_r (e' := qa_8_3) (qh_up (by decide +kernel) (by decide +kernel)) ?_
  refine nm_r (e' := (3 : Int32)) (by decide +kernel) ?_
  exact h
def qa_2_4 : Nat → Int32 := upd qa_2_3 3 8
def qa_8_4 : Nat → Int32 := upd qa_8_3 3 2
def qa_4_4 : Nat → Int32 := upd qa_4_3 3 (-1)
theorem qc_111 {t : Nat} {va : Nat → Int32} {post : Int32 → St2 → Prop} {y0 y1 y2 : Int32} (e0 : y0 = 8) (e1 : y1 = 2) (e2 : y2 = (-1)) (h : post 3 (30, 11, 0, 0, 4, 3, 2, 0, 1, 0, 1, 0, 0, 0, 0, (qa_1_30 t), qa_2_4, qa_8_4, qa_4_4, (fun _ => 0), qa_8_3, qa_7_3, qa_8_1, qa_9_1, (qa_10_1 t), (fun _ => 0), (fun _ => 0), va)) : wpX_newNode post (30, 11, 0, 0, 3, 3, 2, 0, 1, 0, 1, 0, 0, 0, 0, (qa_1_30 t), qa_2_3, qa_8_3, qa_4_3, (fun _ => 0), qa_8_3, qa_7_3, qa_8_1, qa_9_1, (qa_10_1 t), (fun _ => 0), (fun _ => 0), va) y0 y1 y2 := by
  subst e0 e1 e2
  unfold wpX_newNode
  dsimp only
  refine br_f (by decide +kernel) ?_
  refine qh_in (by decide +kernel) ?_
  refine nm_r (e' := qa_2_4) (qh_up (by decide +kernel) (by decide +kernel)) ?_
  refine qh_in (by decide +kernel) ?_
  refine nm_r (e' := qa_8_4) (qh_up (by decide +kernel) (by decide +kernel)) ?_
  refine qh_in (by decide +kernel) ?_
  refine nm_r (e' := qa_4_4) (qh_up (by decide +kernel) (by decide +kernel)) ?_
  refine nm_r (e' := (4 : Int32)) (by decide +kernel) ?_
  exact h
def qa_8_5 : Nat → Int32 := upd qa_8_3 2 3
theorem qc_112 {t : Nat} {va : Nat → Int32} {post : St2 → Prop} (h : post (30, 11, 0, 0, 4, 3, 2, 0, 1, 0, 1, 0, 0, 0, 0, (qa_1_30 t), qa_2_4, qa_8_4, qa_4_4, (fun _ => 0), qa_8_5, qa_7_3, qa_8_1, qa_9_1, (qa_10_1 t), (fun _ => 0), (fun _ => 0), va)) : wpX_reduce post (30, 11, 0, 0, 3, 3, 3, 1, 1, 0, 1, 0, 0, 0, 0, (qa_1_30 t), qa_2_3, qa_8_3, qa_4_3, (fun _ => 0), qa_8_3, qa_7_3, qa_8_1, qa_9_1, (qa_10_1 t), (fun _ => 0), (fun _ => 0), va) := by
  unfold wpX_reduce
  dsimp only
  refine nm_r (e' := (2 : Int32)) (by decide +kernel) ?_
  refine qh_in (by decide +kernel) ?_
  refine nm_r (e' := (8 : Int32)) (by decide +kernel) ?_
  refine br_t (by decide +kernel) ?_
  refine nm_r (e' := (0 : Int32)) (by decide +kernel) ?_
  refine qh_in (by decide +kernel) ?_
  refine qc_111 (by decide +kernel) (by decide +kernel) (by decide +kernel) ?_
  dsimp only
  refine qh_in (by decide +kernel) ?_
  refine nm_r (e' := qa_8_5) (qh_up (by decide +kernel) (by decide +kernel)) ?_
  exact h
theorem qc_113 {t : Nat} {va : Nat → Int32} {post : St2 → Prop} (h : post (30, 11, 0, 0, 4, 3, 2, 0, 1, 0, 1, 0, 0, 0, 0, (qa_1_30 t), qa_2_4, qa_8_4, qa_4_4, (fun _ => 0), qa_8_5, qa_7_3, qa_8_1, qa_9_1, (qa_10_1 t), (fun _ => 0), (fun _ => 0), va)) : wpX_factorDone post (30, 11, 0, 0, 3, 3, 3, 1, 1, 0, 1, 0, 0, 0, 0, (qa_1_30 t), qa_2_3, qa_8_3, qa_4_3, (fun _ => 0), qa_8_3, qa_7_3, qa_8_1, qa_9_1, (qa_10_1 t), (fun _ => 0), (fun _ => 0), va) := by
  unfold wpX_factorDone
  dsimp only
  refine Exists.intro 2 ?_
  refine br_f (by decide +kernel) ?_
  refine br_f (by decide +kernel) ?_
  refine qh_in (by decide +kernel) ?_
  refine br_t (by decide +kernel) ?_
  refine qc_112 ?_
  dsimp only
  refine nm_r (e' := (1 : Int32)) (by decide +kernel) ?_
  refine br_f (by decide +kernel) ?_
  refine br_f (by decide +kernel) ?_
  refine qh_in (by decide +kernel) ?_
  refine br_f (by decide +kernel) ?_
  exact h
theorem qc_114 {t : Nat} {va : Nat → Int32} {post : Int32 → St2 → Prop} (h : post 1 (30, 11, 0, 0, 4, 3, 2, 0, 1, 0, 1, 0, 0, 0, 0, (qa_1_30 t), qa_2_4, qa_8_4, qa_4_4, (fun _ => 0), qa_8_5, qa_7_3, qa_8_1, qa_9_1, (qa_10_1 t), (fun _ => 0), (fun _ => 0), va)) : wpX_readOperand post (30, 10, 0, 0, 2, 2, 3, 1, 1, 0, 1, 0, 0, 0, 0, (qa_1_30 t), qa_2_2, qa_8_2, qa_4_2, (fun _ => 0), qa_8_2, qa_7_3, qa_8_1, qa_9_1, (qa_10_1 t), (fun _ => 0), (fun _ => 0), va) := by
  unfold wpX_readOperand
  dsimp only
  refine qh_peek (k := 10) (q := 99) (by decide +kernel) (by decide +kernel) (by decide +kernel) qs_10 (by decide +kernel) (by omega) ?_
  refine qc_34 (by decide +kernel) ?_
  refine br_t (by decide +kernel) ?_
  refine qc_35 (by decide +kernel) ?_
  refine br_f (by decide +kernel) ?_
  refine qc_109 (by decide +kernel) (by decide +kernel) (by decide +kernel) ?_
  dsimp only
  refine qc_110 (by decide +kernel) ?_
  dsimp only
  refine nm_r (e' := (11 : Int32)) (by decide +kernel) ?_
  refine qc_113 ?_
  dsimp only
  exact h
theorem qc_115 {post : Int32 → Prop} {y0 : Int32} (e0 : y0 = 59) (h : post 0) : wpX_binary post () y0 := by
  subst e0
  unfold wpX_binary
  refine br_f (by decide +kernel) ?_
  refine br_f (by decide +kernel) ?_
  refine br_f (by decide +kernel) ?_
  refine br_f (by decide +kernel) ?_
  refine br_f (by decide +kernel) ?_
  exact h
theorem qc_116 {t : Nat} {va : Nat → Int32} {post : Int32 → St2 → Prop} (h : post (-1) (30, 11, 0, 0, 4, 3, 2, 0, 1, 0, 1, 0, 0, 0, 0, (qa_1_30 t), qa_2_4, qa_8_4, qa_4_4, (fun _ => 0), qa_8_5, qa_7_3, qa_8_1, qa_9_1, (qa_10_1 t), (fun _ => 0), (fun _ => 0), va)) : wpX_readOperator post (30, 11, 0, 0, 4, 3, 2, 0, 1, 0, 1, 0, 0, 0, 0, (qa_1_30 t), qa_2_4, qa_8_4, qa_4_4, (fun _ => 0), qa_8_5, qa_7_3, qa_8_1, qa_9_1, (qa_10_1 t), (fun _ => 0), (fun _ => 0), va) := by
  unfold wpX_readOperator
  dsimp only
  refine qh_peek (k := 11) (q := 59) (by decide +kernel) (by decide +kernel) (by decide +kernel) qs_11 (by decide +kernel) (by omega) ?_
  refine qc_115 (by decide +kernel) ?_
  refine br_t (by decide +kernel) ?_
  refine br_f (by decide +kernel) ?_
  exact h
def qa_2_5 : Nat → Int32 := upd qa_2_4 4 5
def qa_8_6 : Nat → Int32 := upd qa_8_4 4 1
def qa_4_5 : Nat → Int32 := upd qa_4_4 4 3
theorem qc_117 {t : Nat} {va : Nat → Int32} {post : Int32 → St2 → Prop} {y0 y1 y2 : Int32} (e0 : y0 = 5) (e1 : y1 = 1) (e2 : y2 = 3) (h : post 4 (30, 11, 0, 0, 5, 3, 1, 0, 1, 0, 1, 0, 0, 0, 0, (qa_1_30 t), qa_2_5, qa_8_6, qa_4_5, (fun _ => 0), qa_8_5, qa_7_3, qa_8_1, qa_9_1, (qa_10_1 t), (fun _ => 0), (fun _ => 0), va)) : wpX_newNode post (30, 11, 0, 0, 4, 3, 1, 0, 1, 0, 1, 0, 0, 0, 0, (qa_1_30 t), qa_2_4, qa_8_4, qa_4_4, (fun _ => 0), qa_8_5, qa_7_3, qa_8_1, qa_9_1, (qa_10_1 t), (fun _ => 0), (fun _ => 0), va) y0 y1 y2 := by
  subst e0 e1 e2
  unfold wpX_newNode
  dsimp only
  refine br_f (by decide +kernel) ?_
  refine qh_in (by decide +kernel) ?_
  refine nm_r (e' := qa_2_5) (qh_up (by decide +kernel) (by decide +kernel)) ?_
  refine qh_in (by decide +kernel) ?_
  refine nm_r (e' := qa_8_6) (qh_up (by decide +kernel) (by decide +kernel)) ?_
  refine qh_in (by decide +kernel) ?_
  refine nm_r (e' := qa_4_5) (qh_up (by decide +kernel) (by decide +kernel)) ?_
  refine nm_r (e' := (5 : Int32)) (by decide +kernel) ?_
  exact h
def qa_8_7 : Nat → Int32 := upd qa_8_5 1 4
theorem qc_118 {t : Nat} {va : Nat → Int32} {post : St2 → Prop} (h : post (30, 11, 0, 0, 5, 2, 1, 0, 1, 0, 1, 0, 0, 0, 0, (qa_1_30 t), qa_2_5, qa_8_6, qa_4_5, (fun _ => 0), qa_8_7, qa_7_3, qa_8_1, qa_9_1, (qa_10_1 t), (fun _ => 0), (fun _ => 0), va)) : wpX_reduce post (30, 11, 0, 0, 4, 3, 2, 0, 1, 0, 1, 0, 0, 0, 0, (qa_1_30 t), qa_2_4, qa_8_4, qa_4_4, (fun _ => 0), qa_8_5, qa_7_3, qa_8_1, qa_9_1, (qa_10_1 t), (fun _ => 0), (fun _ => 0), va) := by
  unfold wpX_reduce
  dsimp only
  refine nm_r (e' := (1 : Int32)) (by decide +kernel) ?_
  refine qh_in (by decide +kernel) ?_
  refine nm_r (e' := (5 : Int32)) (by decide +kernel) ?_
  refine br_f (by decide +kernel) ?_
  refine qh_in (by decide +kernel) ?_
  refine qh_in (by decide +kernel) ?_
  refine qc_117 (by decide +kernel) (by decide +kernel) (by decide +kernel) ?_
  dsimp only
  refine nm_r (e' := (2 : Int32)) (by decide +kernel) ?_
  refine qh_in (by decide +kernel) ?_
  refine nm_r (e' := qa_8_7) (qh_up (by decide +kernel) (by decide +kernel)) ?_
  exact h
def qa_2_6 : Nat → Int32 := upd qa_2_5 5 3
def qa_8_8 : Nat → Int32 := upd qa_8_6 5 0
def qa_4_6 : Nat → Int32 := upd qa_4_5 5 4
theorem qc_119 {t : Nat} {va : Nat → Int32} {post : Int32 → St2 → Prop} {y0 y1 y2 : Int32} (e0 : y0 = 3) (e1 : y1 = 0) (e2 : y2 = 4) (h : post 5 (30, 11, 0, 0, 6, 2, 0, 0, 1, 0, 1, 0, 0, 0, 0, (qa_1_30 t), qa_2_6, qa_8_8, qa_4_6, (fun _ => 0), qa_8_7, qa_7_3, qa_8_1, qa_9_1, (qa_10_1 t), (fun _ => 0), (fun _ => 0), va)) : wpX_newNode post (30, 11, 0, 0, 5, 2, 0, 0, 1, 0, 1, 0, 0, 0, 0, (qa_1_30 t), qa_2_5, qa_8_6, qa_4_5, (fun _ => 0), qa_8_7, qa_7_3, qa_8_1, qa_9_1, (qa_10_1 t), (fun _ => 0), (fun _ => 0), va) y0 y1 y2 := by
  subst e0 e1 e2
  unfold wpX_newNode
  dsimp only
  refine br_f (by decide +kernel) ?_
  refine qh_in (by decide +kernel) ?_
  refine nm_r (e' := qa_2_6) (qh_up (by decide +kernel) (by decide +kernel)) ?_
  refine qh_in (by decide +kernel) ?_
  refine nm_r (e' := qa_8_8) (qh_up (by decide +kernel) (by decide +kernel)) ?_
  refine qh_in (by decide +kernel) ?_
  refine nm_r (e' := qa_4_6) (qh_up (by decide +kernel) (by decide +kernel)) ?_
  refine nm_r (e' := (6 : Int32)) (by decide +kernel) ?_
  exact h
def qa_8_9 : Nat → Int32 := upd qa_8_7 0 5
theorem qc_120 {t : Nat} {va : Nat → Int32} {post : St2 → Prop} (h : post (30, 11, 0, 0, 6, 1, 0, 0, 1, 0, 1, 0, 0, 0, 0, (qa_1_30 t), qa_2_6, qa_8_8, qa_4_6, (fun _ => 0), qa_8_9, qa_7_3, qa_8_1, qa_9_1, (qa_10_1 t), (fun _ => 0), (fun _ => 0), va)) : wpX_reduce post (30, 11, 0, 0, 5, 2, 1, 0, 1, 0, 1, 0, 0, 0, 0, (qa_1_30 t), qa_2_5, qa_8_6, qa_4_5, (fun _ => 0), qa_8_7, qa_7_3, qa_8_1, qa_9_1, (qa_10_1 t), (fun _ => 0), (fun _ => 0), va) := by
  unfold wpX_reduce
  dsimp only
  refine nm_r (e' := (0 : Int32)) (by decide +kernel) ?_
  refine qh_in (by decide +kernel) ?_
  refine nm_r (e' := (3 : Int32)) (by decide +kernel) ?_
  refine br_f (by decide +kernel) ?_
  refine qh_in (by decide +kernel) ?_
  refine qh_in (by decide +kernel) ?_
  refine qc_119 (by decide +kernel) (by decide +kernel) (by decide +kernel) ?_
  dsimp only
  refine nm_r (e' := (1 : Int32)) (by decide +kernel) ?_
  refine qh_in (by decide +kernel) ?_
  refine nm_r (e' := qa_8_9) (qh_up (by decide +kernel) (by decide +kernel)) ?_
  exact h
theorem qc_121 {t : Nat} {va : Nat → Int32} {post : St2 → Prop} {y0 : Int32} (e0 : y0 = 1) (h : post (30, 11, 0, 0, 6, 1, 0, 0, 1, 0, 1, 0, 0, 0, 0, (qa_1_30 t), qa_2_6, qa_8_8, qa_4_6, (fun _ => 0), qa_8_9, qa_7_3, qa_8_1, qa_9_1, (qa_10_1 t), (fun _ => 0), (fun _ => 0), va)) : wpX_reduceTo post (30, 11, 0, 0, 4, 3, 2, 0, 1, 0, 1, 0, 0, 0, 0, (qa_1_30 t), qa_2_4, qa_8_4, qa_4_4, (fun _ => 0), qa_8_5, qa_7_3, qa_8_1, qa_9_1, (qa_10_1 t), (fun _ => 0), (fun _ => 0), va) y0 := by
  subst e0
  unfold wpX_reduceTo
  dsimp only
  refine Exists.intro 3 ?_
  refine br_f (by decide +kernel) ?_
  refine br_f (by decide +kernel) ?_
  refine qh_in (by decide +kernel) ?_
  refine qc_103 (by decide +kernel) ?_
  refine br_f (by decide +kernel) ?_
  refine qc_118 ?_
  dsimp only
  refine nm_r (e' := (1 : Int32)) (by decide +kernel) ?_
  refine br_f (by decide +kernel) ?_
  refine br_f (by decide +kernel) ?_
  refine qh_in (by decide +kernel) ?_
  refine qc_94 (by decide +kernel) ?_
  refine br_f (by decide +kernel) ?_
  refine qc_120 ?_
  dsimp only
  refine nm_r (e' := (2 : Int32)) (by decide +kernel) ?_
  refine br_f (by decide +kernel) ?_
  refine br_t (by decide +kernel) ?_
  exact h
def qa_8_10 : Nat → Int32 := upd qa_8_1 1 0
def qa_8_11 : Nat → Int32 := upd qa_8_10 2 0
def qa_8_12 : Nat → Int32 := upd qa_8_11 3 0
def qa_8_13 : Nat → Int32 := upd qa_8_12 4 0
def qa_8_14 : Nat → Int32 := upd qa_8_13 5 0
def qa_8_15 : Nat → Int32 := upd qa_8_14 0 1
def qa_8_16 : Nat → Int32 := upd qa_8_15 4 1
def qa_8_17 : Nat → Int32 := upd qa_8_16 1 2
def qa_8_18 : Nat → Int32 := upd qa_8_17 3 2
def qa_8_19 : Nat → Int32 := upd qa_8_18 2 3
def qa_9_2 : Nat → Int32 := upd qa_9_1 1 2
def qa_10_2 (t : Nat) : Nat → Int32 := upd (qa_10_1 t) 1 2
theorem qc_122 {t : Nat} {va : Nat → Int32} {post : St2 → Prop} {y0 y1 : Int32} (e0 : y0 = 2) (e1 : y1 = 2) (h : post (30, 11, 0, 0, 6, 1, 0, 0, 1, 0, 2, 0, 0, 0, 0, (qa_1_30 t), qa_2_6, qa_8_8, qa_4_6, qa_8_19, qa_8_9, qa_7_3, qa_8_1, qa_9_2, (qa_10_2 t), (fun _ => 0), (fun _ => 0), va)) : wpX_put post (30, 11, 0, 0, 6, 1, 0, 0, 1, 0, 1, 0, 0, 0, 0, (qa_1_30 t), qa_2_6, qa_8_8, qa_4_6, qa_8_19, qa_8_9, qa_7_3, qa_8_1, qa_9_1, (qa_10_1 t), (fun _ => 0), (fun _ => 0), va) y0 y1 := by
  subst e0 e1
  unfold wpX_put
  dsimp only
  refine br_t (by decide +kernel) ?_
  refine qh_in (by decide +kernel) ?_
  refine nm_r (e' := qa_9_2) (qh_up (by decide +kernel) (by decide +kernel)) ?_
  refine qh_in (by decide +kernel) ?_
  refine nm_r (e' := (qa_10_2 t)) (qh_up (by decide +kernel) (by decide +kernel)) ?_
  refine nm_r (e' := (2 : Int32)) (by decide +kernel) ?_
  exact h
theorem qc_123 {t : Nat} {va : Nat → Int32} {post : St2 → Prop} {y0 : Int32} (e0 : y0 = 3) (h : post (30, 11, 0, 0, 6, 1, 0, 0, 1, 0, 2, 0, 0, 0, 0, (qa_1_30 t), qa_2_6, qa_8_8, qa_4_6, qa_8_19, qa_8_9, qa_7_3, qa_8_1, qa_9_2, (qa_10_2 t), (fun _ => 0), (fun _ => 0), va)) : wpX_emitLevel post (30, 11, 0, 0, 6, 1, 0, 0, 1, 0, 1, 0, 0, 0, 0, (qa_1_30 t), qa_2_6, qa_8_8, qa_4_6, qa_8_19, qa_8_9, qa_7_3, qa_8_1, qa_9_1, (qa_10_1 t), (fun _ => 0), (fun _ => 0), va) y0 := by
  subst e0
  unfold wpX_emitLevel
  dsimp only
  refine Exists.intro 7 ?_
  refine br_f (by decide +kernel) ?_
  refine qh_in (by decide +kernel) ?_
  refine br_f (by decide +kernel) ?_
  refine nm_r (e' := (1 : Int32)) (by decide +kernel) ?_
  refine br_f (by decide +kernel) ?_
  refine qh_in (by decide +kernel) ?_
  refine br_f (by decide +kernel) ?_
  refine nm_r (e' := (2 : Int32)) (by decide +kernel) ?_
  refine br_f (by decide +kernel) ?_
  refine qh_in (by decide +kernel) ?_
  refine br_t (by decide +kernel) ?_
  refine qh_in (by decide +kernel) ?_
  refine qh_in (by decide +kernel) ?_
  refine qc_122 (by decide +kernel) (by decide +kernel) ?_
  dsimp only
  refine nm_r (e' := (3 : Int32)) (by decide +kernel) ?_
  refine br_f (by decide +kernel) ?_
  refine qh_in (by decide +kernel) ?_
  refine br_f (by decide +kernel) ?_
  refine nm_r (e' := (4 : Int32)) (by decide +kernel) ?_
  refine br_f (by decide +kernel) ?_
  refine qh_in (by decide +kernel) ?_
  refine br_f (by decide +kernel) ?_
  refine nm_r (e' := (5 : Int32)) (by decide +kernel) ?_
  refine br_f (by decide +kernel) ?_
  refine qh_in (by decide +kernel) ?_
  refine br_f (by decide +kernel) ?_
  refine nm_r (e' := (6 : Int32)) (by decide +kernel) ?_
  refine br_t (by decide +kernel) ?_
  exact h
def qa_9_3 : Nat → Int32 := upd qa_9_2 2 2
def qa_10_3 (t : Nat) : Nat → Int32 := upd (qa_10_2 t) 2 1
theorem qc_124 {t : Nat} {va : Nat → Int32} {post : St2 → Prop} {y0 y1 : Int32} (e0 : y0 = 2) (e1 : y1 = 1) (h : post (30, 11, 0, 0, 6, 1, 0, 0, 1, 0, 3, 0, 0, 0, 0, (qa_1_30 t), qa_2_6, qa_8_8, qa_4_6, qa_8_19, qa_8_9, qa_7_3, qa_8_1, qa_9_3, (qa_10_3 t), (fun _ => 0), (fun _ => 0), va)) : wpX_put post (30, 11, 0, 0, 6, 1, 0, 0, 1, 0, 2, 0, 0, 0, 0, (qa_1_30 t), qa_2_6, qa_8_8, qa_4_6, qa_8_19, qa_8_9, qa_7_3, qa_8_1, qa_9_2, (qa_10_2 t), (fun _ => 0), (fun _ => 0), va) y0 y1 := by
  subst e0 e1
  unfold wpX_put
  dsimp only
  refine br_t (by decide +kernel) ?_
  refine qh_in (by decide +kernel) ?_
  refine nm_r (e' := qa_9_3) (qh_up (by decide +kernel) (by decide +kernel)) ?_
  refine qh_in (by decide +kernel) ?_
  refine nm_r (e' := (qa_10_3 t)) (qh_up (by decide +kernel) (by decide +kernel)) ?_
  refine nm_r (e' := (3 : Int32)) (by decide +kernel) ?_
  exact h
def qa_9_4 : Nat → Int32 := upd qa_9_3 3 8
def qa_10_4 (t : Nat) : Nat → Int32 := upd (qa_10_3 t) 3 2
theorem qc_125 {t : Nat} {va : Nat → Int32} {post : St2 → Prop} {y0 y1 : Int32} (e0 : y0 = 8) (e1 : y1 = 2) (h : post (30, 11, 0, 0, 6, 1, 0, 0, 1, 0, 4, 0, 0, 0, 0, (qa_1_30 t), qa_2_6, qa_8_8, qa_4_6, qa_8_19, qa_8_9, qa_7_3, qa_8_1, qa_9_4, (qa_10_4 t), (fun _ => 0), (fun _ => 0), va)) : wpX_put post (30, 11, 0, 0, 6, 1, 0, 0, 1, 0, 3, 0, 0, 0, 0, (qa_1_30 t), qa_2_6, qa_8_8, qa_4_6, qa_8_19, qa_8_9, qa_7_3, qa_8_1, qa_9_3, (qa_10_3 t), (fun _ => 0), (fun _ => 0), va) y0 y1 := by
  subst e0 e1
  unfold wpX_put
  dsimp only
  refine br_t (by decide +kernel) ?_
  refine qh_in (by decide +kernel) ?_
  refine nm_r (e' := qa_9_4) (qh_up (by decide +kernel) (by decide +kernel)) ?_
  refine qh_in (by decide +kernel) ?_
  refine nm_r (e' := (qa_10_4 t)) (qh_up (by decide +kernel) (by decide +kernel)) ?_
  refine nm_r (e' := (4 : Int32)) (by decide +kernel) ?_
  exact h
theorem qc_126 {t : Nat} {va : Nat → Int32} {post : St2 → Prop} {y0 : Int32} (e0 : y0 = 2) (h : post (30, 11, 0, 0, 6, 1, 0, 0, 1, 0, 4, 0, 0, 0, 0, (qa_1_30 t), qa_2_6, qa_8_8, qa_4_6, qa_8_19, qa_8_9, qa_7_3, qa_8_1, qa_9_4, (qa_10_4 t), (fun _ => 0), (fun _ => 0), va)) : wpX_emitLevel post (30, 11, 0, 0, 6, 1, 0, 0, 1, 0, 2, 0, 0, 0, 0, (qa_1_30 t), qa_2_6, qa_8_8, qa_4_6, qa_8_19, qa_8_9, qa_7_3, qa_8_1, qa_9_2, (qa_10_2 t), (fun _ => 0), (fun _ => 0), va) y0 := by
  subst e0
  unfold wpX_emitLevel
  dsimp only
  refine Exists.intro 7 ?_
  refine br_f (by decide +kernel) ?_
  refine qh_in (by decide +kernel) ?_
  refine br_f (by decide +kernel) ?_
  refine nm_r (e' := (1 : Int32)) (by decide +kernel) ?_
  refine br_f (by decide +kernel) ?_
  refine qh_in (by decide +kernel) ?_
  refine br_t (by decide +kernel) ?_
  refine qh_in (by decide +kernel) ?_
  refine qh_in (by decide +kernel) ?_
  refine qc_124 (by decide +kernel) (by decide +kernel) ?_
  dsimp only
  refine nm_r (e' := (2 : Int32)) (by decide +kernel) ?_
  refine br_f (by decide +kernel) ?_
  refine qh_in (by decide +kernel) ?_
  refine br_f (by decide +kernel) ?_
  refine nm_r (e' := (3 : Int32)) (by decide +kernel) ?_
  refine br_f (by decide +kernel) ?_
  refine qh_in (by decide +kernel) ?_
  refine br_t (by decide +kernel) ?_
  refine qh_in (by decide +kernel) ?_
  refine qh_in (by decide +kernel) ?_
  refine qc_125 (by decide +kernel) (by decide +kernel) ?_
  dsimp only
  refine nm_r (e' := (4 : Int32)) (by decide +kernel) ?_
  refine br_f (by decide +kernel) ?_
  refine qh_in (by decide +kernel) ?_
  refine br_f (by decide +kernel) ?_
  refine nm_r (e' := (5 : Int32)) (by decide +kernel) ?_
  refine br_f (by decide +kernel) ?_
  refine qh_in (by decide +kernel) ?_
  refine br_f (by decide +kernel) ?_
  refine nm_r (e' := (6 : Int32)) (by decide +kernel) ?_
  refine br_t (by decide +kernel) ?_
  exact h
def qa_9_5 : Nat → Int32 := upd qa_9_4 4 2
def qa_10_5 (t : Nat) : Nat → Int32 := upd (qa_10_4 t) 4 0
theorem qc_127 {t : Nat} {va : Nat → Int32} {post : St2 → Prop} {y0 y1 : Int32} (e0 : y0 = 2) (e1 : y1 = 0) (h : post (30, 11, 0, 0, 6, 1, 0, 0, 1, 0, 5, 0, 0, 0, 0, (qa_1_30 t), qa_2_6, qa_8_8, qa_4_6, qa_8_19, qa_8_9, qa_7_3, qa_8_1, qa_9_5, (qa_10_5 t), (fun _ => 0), (fun _ => 0), va)) : wpX_put post (30, 11, 0, 0, 6, 1, 0, 0, 1, 0, 4, 0, 0, 0, 0, (qa_1_30 t), qa_2_6, qa_8_8, qa_4_6, qa_8_19, qa_8_9, qa_7_3, qa_8_1, qa_9_4, (qa_10_4 t), (fun _ => 0), (fun _ => 0), va) y0 y1 := by
  subst e0 e1
  unfold wpX_put
  dsimp only
  refine br_t (by decide +kernel) ?_
  refine qh_in (by decide +kernel) ?_
  refine nm_r (e' := qa_9_5) (qh_up (by decide +kernel) (by decide +kernel)) ?_
  refine qh_in (by decide +kernel) ?_
  refine nm_r (e' := (qa_10_5 t)) (qh_up (by decide +kernel) (by decide +kernel)) ?_
  refine nm_r (e' := (5 : Int32)) (by decide +kernel) ?_
  exact h
def qa_9_6 : Nat → Int32 := upd qa_9_5 5 5
def qa_10_6 (t : Nat) : Nat → Int32 := upd (qa_10_5 t) 5 1
theorem qc_128 {t : Nat} {va : Nat → Int32} {post : St2 → Prop} {y0 y1 : Int32} (e0 : y0 = 5) (e1 : y1 = 1) (h : post (30, 11, 0, 0, 6, 1, 0, 0, 1, 0, 6, 0, 0, 0, 0, (qa_1_30 t), qa_2_6, qa_8_8, qa_4_6, qa_8_19, qa_8_9, qa_7_3, qa_8_1, qa_9_6, (qa_10_6 t), (fun _ => 0), (fun _ => 0), va)) : wpX_put post (30, 11, 0, 0, 6, 1, 0, 0, 1, 0, 5, 0, 0, 0, 0, (qa_1_30 t), qa_2_6, qa_8_8, qa_4_6, qa_8_19, qa_8_9, qa_7_3, qa_8_1, qa_9_5, (qa_10_5 t), (fun _ => 0), (fun _ => 0), va) y0 y1 := by
  subst e0 e1
  unfold wpX_put
  dsimp only
  refine br_t (by decide +kernel) ?_
  refine qh_in (by decide +kernel) ?_
  refine nm_r (e' := qa_9_6) (qh_up (by decide +kernel) (by decide +kernel)) ?_
  refine qh_in (by decide +kernel) ?_
  refine nm_r (e' := (qa_10_6 t)) (qh_up (by decide +kernel) (by decide +kernel)) ?_
  refine nm_r (e' := (6 : Int32)) (by decide +kernel) ?_
  exact h
theorem qc_129 {t : Nat} {va : Nat → Int32} {post : St2 → Prop} {y0 : Int32} (e0 : y0 = 1) (h : post (30, 11, 0, 0, 6, 1, 0, 0, 1, 0, 6, 0, 0, 0, 0, (qa_1_30 t), qa_2_6, qa_8_8, qa_4_6, qa_8_19, qa_8_9, qa_7_3, qa_8_1, qa_9_6, (qa_10_6 t), (fun _ => 0), (fun _ => 0), va)) : wpX_emitLevel post (30, 11, 0, 0, 6, 1, 0, 0, 1, 0, 4, 0, 0, 0, 0, (qa_1_30 t), qa_2_6, qa_8_8, qa_4_6, qa_8_19, qa_8_9, qa_7_3, qa_8_1, qa_9_4, (qa_10_4 t), (fun _ => 0), (fun _ => 0), va) y0 := by
  subst e0
  unfold wpX_emitLevel
  dsimp only
  refine Exists.intro 7 ?_
  refine br_f (by decide +kernel) ?_
  refine qh_in (by decide +kernel) ?_
  refine br_t (by decide +kernel) ?_
  refine qh_in (by decide +kernel) ?_
  refine qh_in (by decide +kernel) ?_
  refine qc_127 (by decide +kernel) (by decide +kernel) ?_
  dsimp only
  refine nm_r (e' := (1 : Int32)) (by decide +kernel) ?_
  refine br_f (by decide +kernel) ?_
  refine qh_in (by decide +kernel) ?_
  refine br_f (by decide +kernel) ?_
  refine nm_r (e' := (2 : Int32)) (by decide +kernel) ?_
  refine br_f (by decide +kernel) ?_
  refine qh_in (by decide +kernel) ?_
  refine br_f (by decide +kernel) ?_
  refine nm_r (e' := (3 : Int32)) (by decide +kernel) ?_
  refine br_f (by decide +kernel) ?_
  refine qh_in (by decide +kernel) ?_
  refine br_f (by decide +kernel) ?_
  refine nm_r (e' := (4 : Int32)) (by decide +kernel) ?_
  refine br_f (by decide +kernel) ?_
  refine qh_in (by decide +kernel) ?_
  refine br_t (by decide +kernel) ?_
  refine qh_in (by decide +kernel) ?_
  refine qh_in (by decide +kernel) ?_
  refine qc_128 (by decide +kernel) (by decide +kernel) ?_
  dsimp only
  refine nm_r (e' := (5 : Int32)) (by decide +kernel) ?_
  refine br_f (by decide +kernel) ?_
  refine qh_in (by decide +kernel) ?_
  refine br_f (by decide +kernel) ?_
  refine nm_r (e' := (6 : Int32)) (by decide +kernel) ?_
  refine br_t (by decide +kernel) ?_
  exact h
def qa_9_7 : Nat → Int32 := upd qa_9_6 6 3
def qa_10_7 (t : Nat) : Nat → Int32 := upd (qa_10_6 t) 6 0
theorem qc_130 {t : Nat} {va : Nat → Int32} {post : St2 → Prop} {y0 y1 : Int32} (e0 : y0 = 3) (e1 : y1 = 0) (h : post (30, 11, 0, 0, 6, 1, 0, 0, 1, 0, 7, 0, 0, 0, 0, (qa_1_30 t), qa_2_6, qa_8_8, qa_4_6, qa_8_19, qa_8_9, qa_7_3, qa_8_1, qa_9_7, (qa_10_7 t), (fun _ => 0), (fun _ => 0), va)) : wpX_put post (30, 11, 0, 0, 6, 1, 0, 0, 1, 0, 6, 0, 0, 0, 0, (qa_1_30 t), qa_2_6, qa_8_8, qa_4_6, qa_8_19, qa_8_9, qa_7_3, qa_8_1, qa_9_6, (qa_10_6 t), (fun _ => 0), (fun _ => 0), va) y0 y1 := by
  subst e0 e1
  unfold wpX_put
  dsimp only
  refine br_t (by decide +kernel) ?_
  refine qh_in (by decide +kernel) ?_
  refine nm_r (e' := qa_9_7) (qh_up (by decide +kernel) (by decide +kernel)) ?_
  refine qh_in (by decide +kernel) ?_
  refine nm_r (e' := (qa_10_7 t)) (qh_up (by decide +kernel) (by decide +kernel)) ?_
  refine nm_r (e' := (7 : Int32)) (by decide +kernel) ?_
  exact h
theorem qc_131 {t : Nat} {va : Nat → Int32} {post : St2 → Prop} {y0 : Int32} (e0 : y0 = 0) (h : post (30, 11, 0, 0, 6, 1, 0, 0, 1, 0, 7, 0, 0, 0, 0, (qa_1_30 t), qa_2_6, qa_8_8, qa_4_6, qa_8_19, qa_8_9, qa_7_3, qa_8_1, qa_9_7, (qa_10_7 t), (fun _ => 0), (fun _ => 0), va)) : wpX_emitLevel post (30, 11, 0, 0, 6, 1, 0, 0, 1, 0, 6, 0, 0, 0, 0, (qa_1_30 t), qa_2_6, qa_8_8, qa_4_6, qa_8_19, qa_8_9, qa_7_3, qa_8_1, qa_9_6, (qa_10_6 t), (fun _ => 0), (fun _ => 0), va) y0 := by
  subst e0
  unfold wpX_emitLevel
  dsimp only
  refine Exists.intro 7 ?_
  refine br_f (by decide +kernel) ?_
  refine qh_in (by decide +kernel) ?_
  refine br_f (by decide +kernel) ?_
  refine nm_r (e' := (1 : Int32)) (by decide +kernel) ?_
  refine br_f (by decide +kernel) ?_
  refine qh_in (by decide +kernel) ?_
  refine br_f (by decide +kernel) ?_
  refine nm_r (e' := (2 : Int32)) (by decide +kernel) ?_
  refine br_f (by decide +kernel) ?_
  refine qh_in (by decide +kernel) ?_
  refine br_f (by decide +kernel) ?_
  refine nm_r (e' := (3 : Int32)) (by decide +kernel) ?_
  refine br_f (by decide +kernel) ?_
  refine qh_in (by decide +kernel) ?_
  refine br_f (by decide +kernel) ?_
  refine nm_r (e' := (4 : Int32)) (by decide +kernel) ?_
  refine br_f (by decide +kernel) ?_
  refine qh_in (by decide +kernel) ?_
  refine br_f (by decide +kernel) ?_
  refine nm_r (e' := (5 : Int32)) (by decide +kernel) ?_
  refine br_f (by decide +kernel) ?_
  refine qh_in (by decide +kernel) ?_
  refine br_t (by decide +kernel) ?_
  refine qh_in (by decide +kernel) ?_
  refine qh_in (by decide +kernel) ?_
  refine qc_130 (by decide +kernel) (by decide +kernel) ?_
  dsimp only
  refine nm_r (e' := (6 : Int32)) (by decide +kernel) ?_
  refine br_t (by decide +kernel) ?_
  exact h
theorem qc_132 {t : Nat} {va : Nat → Int32} {post : St2 → Prop} {y0 : Int32} (e0 : y0 = 5) (h : post (30, 11, 0, 0, 6, 1, 0, 0, 1, 0, 7, 0, 0, 0, 0, (qa_1_30 t), qa_2_6, qa_8_8, qa_4_6, qa_8_19, qa_8_9, qa_7_3, qa_8_1, qa_9_7, (qa_10_7 t), (fun _ => 0), (fun _ => 0), va)) : wpX_emitTree post (30, 11, 0, 0, 6, 1, 0, 0, 1, 0, 1, 0, 0, 0, 0, (qa_1_30 t), qa_2_6, qa_8_8, qa_4_6, (fun _ => 0), qa_8_9, qa_7_3, qa_8_1, qa_9_1, (qa_10_1 t), (fun _ => 0), (fun _ => 0), va) y0 := by
  subst e0
  unfold wpX_emitTree
  dsimp only
  refine Exists.intro 7 ?_
  refine br_f (by decide +kernel) ?_
  refine qh_in (by decide +kernel) ?_
  refine nm_r (e' := qa_8_1) (qh_up (by decide +kernel) (by decide +kernel)) ?_
  refine nm_r (e' := (1 : Int32)) (by decide +kernel) ?_
  refine br_f (by decide +kernel) ?_
  refine qh_in (by decide +kernel) ?_
  refine nm_r (e' := qa_8_10) (qh_up (by decide +kernel) (by decide +kernel)) ?_
  refine nm_r (e' := (2 : Int32)) (by decide +kernel) ?_
  refine br_f (by decide +kernel) ?_
  refine qh_in (by decide +kernel) ?_
  refine nm_r (e' := qa_8_11) (qh_up (by decide +kernel) (by decide +kernel)) ?_
  refine nm_r (e' := (3 : Int32)) (by decide +kernel) ?_
  refine br_f (by decide +kernel) ?_
  refine qh_in (by decide +kernel) ?_
  refine nm_r (e' := qa_8_12) (qh_up (by decide +kernel) (by decide +kernel)) ?_
  refine nm_r (e' := (4 : Int32)) (by decide +kernel) ?_
  refine br_f (by decide +kernel) ?_
  refine qh_in (by decide +kernel) ?_
  refine nm_r (e' := qa_8_13) (qh_up (by decide +kernel) (by decide +kernel)) ?_
  refine nm_r (e' := (5 : Int32)) (by decide +kernel) ?_
  refine br_f (by decide +kernel) ?_
  refine qh_in (by decide +kernel) ?_
  refine nm_r (e' := qa_8_14) (qh_up (by decide +kernel) (by decide +kernel)) ?_
  refine nm_r (e' := (6 : Int32)) (by decide +kernel) ?_
  refine br_t (by decide +kernel) ?_
  refine Exists.intro 7 ?_
  refine br_f (by decide +kernel) ?_
  refine qh_in (by decide +kernel) ?_
  refine br_f (by decide +kernel) ?_
  refine qh_in (by decide +kernel) ?_
  refine qh_in (by decide +kernel) ?_
  refine qh_in (by decide +kernel) ?_
  refine nm_r (e' := qa_8_15) (qh_up (by decide +kernel) (by decide +kernel)) ?_
  refine qh_in (by decide +kernel) ?_
  refine br_f (by decide +kernel) ?_
  refine qh_in (by decide +kernel) ?_
  refine br_f (by decide +kernel) ?_
  refine qh_in (by decide +kernel) ?_
  refine qh_in (by decide +kernel) ?_
  refine qh_in (by decide +kernel) ?_
  refine nm_r (e' := qa_8_16) (qh_up (by decide +kernel) (by decide +kernel)) ?_
  refine qh_in (by decide +kernel) ?_
  refine br_t (by decide +kernel) ?_
  refine nm_r (e' := (4 : Int32)) (by decide +kernel) ?_
  refine br_f (by decide +kernel) ?_
  refine qh_in (by decide +kernel) ?_
  refine br_f (by decide +kernel) ?_
  refine qh_in (by decide +kernel) ?_
  refine qh_in (by decide +kernel) ?_
  refine qh_in (by decide +kernel) ?_
  refine nm_r (e' := qa_8_17) (qh_up (by decide +kernel) (by decide +kernel)) ?_
  refine qh_in (by decide +kernel) ?_
  refine br_f (by decide +kernel) ?_
  refine qh_in (by decide +kernel) ?_
  refine br_f (by decide +kernel) ?_
  refine qh_in (by decide +kernel) ?_
  refine qh_in (by decide +kernel) ?_
  refine qh_in (by decide +kernel) ?_
  refine nm_r (e' := qa_8_18) (qh_up (by decide +kernel) (by decide +kernel)) ?_
  refine qh_in (by decide +kernel) ?_
  refine br_f (by decide +kernel) ?_
  refine qh_in (by decide +kernel) ?_
  refine nm_r (e' := (1 : Int32)) (by decide +kernel) ?_
  refine nm_r (e' := (3 : Int32)) (by decide +kernel) ?_
  refine br_f (by decide +kernel) ?_
  refine qh_in (by decide +kernel) ?_
  refine br_f (by decide +kernel) ?_
  refine qh_in (by decide +kernel) ?_
  refine qh_in (by decide +kernel) ?_
  refine qh_in (by decide +kernel) ?_
  refine nm_r (e' := qa_8_19) (qh_up (by decide +kernel) (by decide +kernel)) ?_
  refine qh_in (by decide +kernel) ?_
  refine br_f (by decide +kernel) ?_
  refine qh_in (by decide +kernel) ?_
  refine br_t (by decide +kernel) ?_
  refine qh_in (by decide +kernel) ?_
  refine br_f (by decide +kernel) ?_
  refine qh_in (by decide +kernel) ?_
  refine nm_r (e' := (2 : Int32)) (by decide +kernel) ?_
  refine nm_r (e' := (2 : Int32)) (by decide +kernel) ?_
  refine br_f (by decide +kernel) ?_
  refine qh_in (by decide +kernel) ?_
  refine br_t (by decide +kernel) ?_
  refine qh_in (by decide +kernel) ?_
  refine br_t (by decide +kernel) ?_
  refine qh_in (by decide +kernel) ?_
  refine br_f (by decide +kernel) ?_
  refine qh_in (by decide +kernel) ?_
  refine nm_r (e' := (3 : Int32)) (by decide +kernel) ?_
  refine nm_r (e' := (1 : Int32)) (by decide +kernel) ?_
  refine br_f (by decide +kernel) ?_
  refine qh_in (by decide +kernel) ?_
  refine br_t (by decide +kernel) ?_
  refine qh_in (by decide +kernel) ?_
  refine br_t (by decide +kernel) ?_
  refine qh_in (by decide +kernel) ?_
  refine br_t (by decide +kernel) ?_
  refine nm_r (e' := (0 : Int32)) (by decide +kernel) ?_
  refine br_f (by decide +kernel) ?_
  refine qh_in (by decide +kernel) ?_
  refine br_t (by decide +kernel) ?_
  refine qh_in (by decide +kernel) ?_
  refine br_t (by decide +kernel) ?_
  refine qh_in (by decide +kernel) ?_
  refine br_t (by decide +kernel) ?_
  refine nm_r (e' := ((-1) : Int32)) (by decide +kernel) ?_
  refine br_t (by decide +kernel) ?_
  refine Exists.intro 5 ?_
  refine br_f (by decide +kernel) ?_
  refine qc_123 (by decide +kernel) ?_
  dsimp only
  refine nm_r (e' := (2 : Int32)) (by decide +kernel) ?_
  refine br_f (by decide +kernel) ?_
  refine qc_126 (by decide +kernel) ?_
  dsimp only
  refine nm_r (e' := (1 : Int32)) (by decide +kernel) ?_
  refine br_f (by decide +kernel) ?_
  refine qc_129 (by decide +kernel) ?_
  dsimp only
  refine nm_r (e' := (0 : Int32)) (by decide +kernel) ?_
  refine br_f (by decide +kernel) ?_
  refine qc_131 (by decide +kernel) ?_
  dsimp only
  refine nm_r (e' := ((-1) : Int32)) (by decide +kernel) ?_
  refine br_t (by decide +kernel) ?_
  exact h
theorem qc_133 {t : Nat} {va : Nat → Int32} {post : St2 → Prop} (h : post (30, 11, 0, 0, 6, 1, 0, 0, 1, 0, 7, 0, 0, 0, 0, (qa_1_30 t), qa_2_6, qa_8_8, qa_4_6, qa_8_19, qa_8_9, qa_7_3, qa_8_1, qa_9_7, (qa_10_7 t), (fun _ => 0), (fun _ => 0), va)) : wpX_sum post (30, 5, 0, 0, 0, 0, 0, 0, 1, 0, 1, 0, 0, 0, 0, (qa_1_30 t), (fun _ => 0), (fun _ => 0), (fun _ => 0), (fun _ => 0), (fun _ => 0), (fun _ => 0), qa_8_1, qa_9_1, (qa_10_1 t), (fun _ => 0), (fun _ => 0), va) := by
  unfold wpX_sum
  dsimp only
  refine Exists.intro 8 ?_
  refine br_f (by decide +kernel) ?_
  refine br_f (by decide +kernel) ?_
  refine br_t (by decide +kernel) ?_
  refine br_f (by decide +kernel) ?_
  refine qc_92 ?_
  dsimp only
  refine br_f (by decide +kernel) ?_
  refine nm_r (e' := (1 : Int32)) (by decide +kernel) ?_
  refine br_f (by decide +kernel) ?_
  refine br_f (by decide +kernel) ?_
  refine br_t (by decide +kernel) ?_
  refine br_t (by decide +kernel) ?_
  refine qc_97 ?_
  dsimp only
  refine br_t (by decide +kernel) ?_
  refine br_t (by decide +kernel) ?_
  refine nm_r (e' := (2 : Int32)) (by decide +kernel) ?_
  refine br_f (by decide +kernel) ?_
  refine br_f (by decide +kernel) ?_
  refine br_t (by decide +kernel) ?_
  refine br_f (by decide +kernel) ?_
  refine qc_101 ?_
  dsimp only
  refine br_f (by decide +kernel) ?_
  refine nm_r (e' := (3 : Int32)) (by decide +kernel) ?_
  refine br_f (by decide +kernel) ?_
  refine br_f (by decide +kernel) ?_
  refine br_t (by decide +kernel) ?_
  refine br_t (by decide +kernel) ?_
  refine qc_106 ?_
  dsimp only
  refine br_t (by decide +kernel) ?_
  refine br_t (by decide +kernel) ?_
  refine nm_r (e' := (4 : Int32)) (by decide +kernel) ?_
  refine br_f (by decide +kernel) ?_
  refine br_f (by decide +kernel) ?_
  refine br_t (by decide +kernel) ?_
  refine br_f (by decide +kernel) ?_
  refine qc_108 ?_
  dsimp only
  refine br_t (by decide +kernel) ?_
  refine nm_r (e' := (5 : Int32)) (by decide +kernel) ?_
  refine br_f (by decide +kernel) ?_
  refine br_f (by decide +kernel) ?_
  refine br_t (by decide +kernel) ?_
  refine br_f (by decide +kernel) ?_
  refine qc_114 ?_
  dsimp only
  refine br_f (by decide +kernel) ?_
  refine nm_r (e' := (6 : Int32)) (by decide +kernel) ?_
  refine br_f (by decide +kernel) ?_
  refine br_f (by decide +kernel) ?_
  refine br_t (by decide +kernel) ?_
  refine br_t (by decide +kernel) ?_
  refine qc_116 ?_
  dsimp only
  refine br_f (by decide +kernel) ?_
  refine br_f (by decide +kernel) ?_
  refine nm_r (e' := (7 : Int32)) (by decide +kernel) ?_
  refine br_f (by decide +kernel) ?_
  refine br_t (by decide +kernel) ?_
  refine br_t (by decide +kernel) ?_
  refine qc_121 (by decide +kernel) ?_
  dsimp only
  refine br_t (by decide +kernel) ?_
  refine qc_132 (by decide +kernel) ?_
  dsimp only
  exact h
def qa_9_8 : Nat → Int32 := upd qa_9_7 7 10
def qa_10_8 (t : Nat) : Nat → Int32 := upd (qa_10_7 t) 7 0
theorem qc_134 {t : Nat} {va : Nat → Int32} {post : St2 → Prop} {y0 y1 : Int32} (e0 : y0 = 10) (e1 : y1 = 0) (h : post (30, 11, 0, 0, 6, 1, 0, 0, 1, 0, 8, 0, 0, 0, 0, (qa_1_30 t), qa_2_6, qa_8_8, qa_4_6, qa_8_19, qa_8_9, qa_7_3, qa_8_1, qa_9_8, (qa_10_8 t), (fun _ => 0), (fun _ => 0), va)) : wpX_put post (30, 11, 0, 0, 6, 1, 0, 0, 1, 0, 7, 0, 0, 0, 0, (qa_1_30 t), qa_2_6, qa_8_8, qa_4_6, qa_8_19, qa_8_9, qa_7_3, qa_8_1, qa_9_7, (qa_10_7 t), (fun _ => 0), (fun _ => 0), va) y0 y1 := by
  subst e0 e1
  unfold wpX_put
  dsimp only
  refine br_t (by decide +kernel) ?_
  refine qh_in (by decide +kernel) ?_
  refine nm_r (e' := qa_9_8) (qh_up (by decide +kernel) (by decide +kernel)) ?_
  refine qh_in (by decide +kernel) ?_
  refine nm_r (e' := (qa_10_8 t)) (qh_up (by decide +kernel) (by decide +kernel)) ?_
  refine nm_r (e' := (8 : Int32)) (by decide +kernel) ?_
  exact h
theorem qc_135 {t : Nat} {va : Nat → Int32} {post : Int32 → St2 → Prop} {y0 : Int32} (e0 : y0 = 59) (h : post 1 (30, 12, 0, 0, 6, 1, 0, 0, 1, 0, 8, 0, 0, 0, 0, (qa_1_30 t), qa_2_6, qa_8_8, qa_4_6, qa_8_19, qa_8_9, qa_7_3, qa_8_1, qa_9_8, (qa_10_8 t), (fun _ => 0), (fun _ => 0), va)) : wpX_accept post (30, 11, 0, 0, 6, 1, 0, 0, 1, 0, 8, 0, 0, 0, 0, (qa_1_30 t), qa_2_6, qa_8_8, qa_4_6, qa_8_19, qa_8_9, qa_7_3, qa_8_1, qa_9_8, (qa_10_8 t), (fun _ => 0), (fun _ => 0), va) y0 := by
  subst e0
  unfold wpX_accept
  dsimp only
  refine qh_peek (k := 11) (q := 59) (by decide +kernel) (by decide +kernel) (by decide +kernel) qs_11 (by decide +kernel) (by omega) ?_
  refine br_t (by decide +kernel) ?_
  refine nm_r (e' := (12 : Int32)) (by decide +kernel) ?_
  exact h
theorem qc_136 {t : Nat} {va : Nat → Int32} {post : St2 → Prop} (h : post (30, 12, 0, 0, 6, 1, 0, 0, 1, 0, 8, 0, 0, 0, 0, (qa_1_30 t), qa_2_6, qa_8_8, qa_4_6, qa_8_19, qa_8_9, qa_7_3, qa_8_1, qa_9_8, (qa_10_8 t), (fun _ => 0), (fun _ => 0), va)) : wpX_statement post (30, 3, 0, 0, 0, 0, 0, 0, 1, 0, 1, 0, 0, 0, 0, (qa_1_30 t), (fun _ => 0), (fun _ => 0), (fun _ => 0), (fun _ => 0), (fun _ => 0), (fun _ => 0), qa_8_1, qa_9_1, (qa_10_1 t), (fun _ => 0), (fun _ => 0), va) := by
  unfold wpX_statement
  dsimp only
  refine qh_peek (k := 3) (q := 97) (by decide +kernel) (by decide +kernel) (by decide +kernel) qs_3 (by decide +kernel) (by omega) ?_
  refine nm_r (e' := (4 : Int32)) (by decide +kernel) ?_
  refine qc_11 (by decide +kernel) ?_
  refine br_f (by decide +kernel) ?_
  refine qc_88 (by decide +kernel) ?_
  dsimp only
  refine br_t (by decide +kernel) ?_
  refine qc_133 ?_
  dsimp only
  refine qc_134 (by decide +kernel) (by decide +kernel) ?_
  dsimp only
  refine qc_135 (by decide +kernel) ?_
  dsimp only
  exact h
def qa_9_9 : Nat → Int32 := upd qa_9_8 8 13
def qa_10_9 (t : Nat) : Nat → Int32 := upd (qa_10_8 t) 8 0
theorem qc_137 {t : Nat} {va : Nat → Int32} {post : St2 → Prop} {y0 y1 : Int32} (e0 : y0 = 13) (e1 : y1 = 0) (h : post (30, 13, 0, 0, 6, 1, 0, 0, 0, 0, 9, 0, 0, 0, 0, (qa_1_30 t), qa_2_6, qa_8_8, qa_4_6, qa_8_19, qa_8_9, qa_7_3, qa_8_1, qa_9_9, (qa_10_9 t), (fun _ => 0), (fun _ => 0), va)) : wpX_put post (30, 13, 0, 0, 6, 1, 0, 0, 0, 0, 8, 0, 0, 0, 0, (qa_1_30 t), qa_2_6, qa_8_8, qa_4_6, qa_8_19, qa_8_9, qa_7_3, qa_8_1, qa_9_8, (qa_10_8 t), (fun _ => 0), (fun _ => 0), va) y0 y1 := by
  subst e0 e1
  unfold wpX_put
  dsimp only
  refine br_t (by decide +kernel) ?_
  refine qh_in (by decide +kernel) ?_
  refine nm_r (e' := qa_9_9) (qh_up (by decide +kernel) (by decide +kernel)) ?_
  refine qh_in (by decide +kernel) ?_
  refine nm_r (e' := (qa_10_9 t)) (qh_up (by decide +kernel) (by decide +kernel)) ?_
  refine nm_r (e' := (9 : Int32)) (by decide +kernel) ?_
  exact h
theorem qc_138 {t : Nat} {va : Nat → Int32} {post : St2 → Prop} (h : post (30, 13, 0, 0, 6, 1, 0, 0, 0, 0, 9, 0, 0, 0, 0, (qa_1_30 t), qa_2_6, qa_8_8, qa_4_6, qa_8_19, qa_8_9, qa_7_3, qa_8_1, qa_9_9, (qa_10_9 t), (fun _ => 0), (fun _ => 0), va)) : wpX_close post (30, 13, 0, 0, 6, 1, 0, 0, 1, 0, 8, 0, 0, 0, 0, (qa_1_30 t), qa_2_6, qa_8_8, qa_4_6, qa_8_19, qa_8_9, qa_7_3, qa_8_1, qa_9_8, (qa_10_8 t), (fun _ => 0), (fun _ => 0), va) := by
  unfold wpX_close
  dsimp only
  refine br_f (by decide +kernel) ?_
  refine nm_r (e' := (0 : Int32)) (by decide +kernel) ?_
  refine br_f (by decide +kernel) ?_
  refine qh_in (by decide +kernel) ?_
  refine nm_r (e' := (0 : Int32)) (by decide +kernel) ?_
  refine qh_in (by decide +kernel) ?_
  refine br_t (by decide +kernel) ?_
  refine qc_137 (by decide +kernel) (by decide +kernel) ?_
  dsimp only
  exact h
theorem qc_139 {t : Nat} {va : Nat → Int32} {post : St2 → Prop} (h : post (30, 13, 0, 0, 6, 1, 0, 0, 0, 0, 9, 0, 0, 0, 0, (qa_1_30 t), qa_2_6, qa_8_8, qa_4_6, qa_8_19, qa_8_9, qa_7_3, qa_8_1, qa_9_9, (qa_10_9 t), (fun _ => 0), (fun _ => 0), va)) : wpX_statement post (30, 12, 0, 0, 6, 1, 0, 0, 1, 0, 8, 0, 0, 0, 0, (qa_1_30 t), qa_2_6, qa_8_8, qa_4_6, qa_8_19, qa_8_9, qa_7_3, qa_8_1, qa_9_8, (qa_10_8 t), (fun _ => 0), (fun _ => 0), va) := by
  unfold wpX_statement
  dsimp only
  refine qh_peek (k := 12) (q := 125) (by decide +kernel) (by decide +kernel) (by decide +kernel) qs_12 (by decide +kernel) (by omega) ?_
  refine nm_r (e' := (13 : Int32)) (by decide +kernel) ?_
  refine qc_43 (by decide +kernel) ?_
  refine br_t (by decide +kernel) ?_
  refine br_f (by decide +kernel) ?_
  refine br_f (by decide +kernel) ?_
  refine br_t (by decide +kernel) ?_
  refine qc_138 ?_
  dsimp only
  exact h
def qa_2_7 : Nat → Int32 := upd qa_2_6 0 2
def qa_8_20 : Nat → Int32 := upd qa_8_8 0 1
def qa_4_7 : Nat → Int32 := upd qa_4_6 0 (-1)
theorem qc_140 {t : Nat} {va : Nat → Int32} {post : Int32 → St2 → Prop} {y0 y1 y2 : Int32} (e0 : y0 = 2) (e1 : y1 = 1) (e2 : y2 = (-1)) (h : post 0 (30, 14, 0, 0, 1, 0, 0, 0, 0, 0, 9, 0, 0, 0, 0, (qa_1_30 t), qa_2_7, qa_8_20, qa_4_7, qa_8_19, qa_8_9, qa_7_3, qa_8_1, qa_9_9, (qa_10_9 t), (fun _ => 0), (fun _ => 0), va)) : wpX_newNode post (30, 14, 0, 0, 0, 0, 0, 0, 0, 0, 9, 0, 0, 0, 0, (qa_1_30 t), qa_2_6, qa_8_8, qa_4_6, qa_8_19, qa_8_9, qa_7_3, qa_8_1, qa_9_9, (qa_10_9 t), (fun _ => 0), (fun _ => 0), va) y0 y1 y2 := by
  subst e0 e1 e2
  unfold wpX_newNode
  dsimp only
  refine br_f (by decide +kernel) ?_
  refine qh_in (by decide +kernel) ?_
  refine nm_r (e' := qa_2_7) (qh_up (by decide +kernel) (by decide +kernel)) ?_
  refine qh_in (by decide +kernel) ?_
  refine nm_r (e' := qa_8_20) (qh_up (by decide +kernel) (by decide +kernel)) ?_
  refine qh_in (by decide +kernel) ?_
  refine nm_r (e' := qa_4_7) (qh_up (by decide +kernel) (by decide +kernel)) ?_
  refine nm_r (e' := (1 : Int32)) (by decide +kernel) ?_
  exact h
def qa_8_21 : Nat → Int32 := upd qa_8_9 0 0
theorem qc_141 {t : Nat} {va : Nat → Int32} {post : St2 → Prop} {y0 : Int32} (e0 : y0 = 0) (h : post (30, 14, 0, 0, 1, 1, 0, 0, 0, 0, 9, 0, 0, 0, 0, (qa_1_30 t), qa_2_7, qa_8_20, qa_4_7, qa_8_19, qa_8_21, qa_7_3, qa_8_1, qa_9_9, (qa_10_9 t), (fun _ => 0), (fun _ => 0), va)) : wpX_pushTree post (30, 14, 0, 0, 1, 0, 0, 0, 0, 0, 9, 0, 0, 0, 0, (qa_1_30 t), qa_2_7, qa_8_20, qa_4_7, qa_8_19, qa_8_9, qa_7_3, qa_8_1, qa_9_9, (qa_10_9 t), (fun _ => 0), (fun _ => 0), va) y0 := by
  subst e0
  unfold wpX_pushTree
  dsimp only
  refine br_t (by decide +kernel) ?_
  refine qh_in (by decide +kernel) ?_
  refine nm_r (e' := qa_8_21) (qh_up (by decide +kernel) (by decide +kernel)) ?_
  refine nm_r (e' := (1 : Int32)) (by decide +kernel) ?_
  exact h
theorem qc_142 {t : Nat} {va : Nat → Int32} {post : St2 → Prop} (h : post (30, 15, 0, 0, 1, 1, 0, 0, 0, 0, 9, 0, 0, 0, 0, (qa_1_30 t), qa_2_7, qa_8_20, qa_4_7, qa_8_19, qa_8_21, qa_7_3, qa_8_1, qa_9_9, (qa_10_9 t), (fun _ => 0), (fun _ => 0), va)) : wpX_factorDone post (30, 15, 0, 0, 1, 1, 0, 0, 0, 0, 9, 0, 0, 0, 0, (qa_1_30 t), qa_2_7, qa_8_20, qa_4_7, qa_8_19, qa_8_21, qa_7_3, qa_8_1, qa_9_9, (qa_10_9 t), (fun _ => 0), (fun _ => 0), va) := by
  unfold wpX_factorDone
  dsimp only
  refine Exists.intro 1 ?_
  refine br_f (by decide +kernel) ?_
  refine br_t (by decide +kernel) ?_
  exact h
theorem qc_143 {t : Nat} {va : Nat → Int32} {post : Int32 → St2 → Prop} (h : post 1 (30, 15, 0, 0, 1, 1, 0, 0, 0, 0, 9, 0, 0, 0, 0, (qa_1_30 t), qa_2_7, qa_8_20, qa_4_7, qa_8_19, qa_8_21, qa_7_3, qa_8_1, qa_9_9, (qa_10_9 t), (fun _ => 0), (fun _ => 0), va)) : wpX_readOperand post (30, 14, 0, 0, 0, 0, 0, 0, 0, 0, 9, 0, 0, 0, 0, (qa_1_30 t), qa_2_6, qa_8_8, qa_4_6, qa_8_19, qa_8_9, qa_7_3, qa_8_1, qa_9_9, (qa_10_9 t), (fun _ => 0), (fun _ => 0), va) := by
  unfold wpX_readOperand
  dsimp only
  refine qh_peek (k := 14) (q := 98) (by decide +kernel) (by decide +kernel) (by decide +kernel) qs_14 (by decide +kernel) (by omega) ?_
  refine qc_23 (by decide +kernel) ?_
  refine br_t (by decide +kernel) ?_
  refine qc_24 (by decide +kernel) ?_
  refine br_f (by decide +kernel) ?_
  refine qc_140 (by decide +kernel) (by decide +kernel) (by decide +kernel) ?_
  dsimp only
  refine qc_141 (by decide +kernel) ?_
  dsimp only
  refine nm_r (e' := (15 : Int32)) (by decide +kernel) ?_
  refine qc_142 ?_
  dsimp only
  exact h
theorem qc_144 {post : Int32 → Prop} {y0 : Int32} (e0 : y0 = 60) (h : post 6) : wpX_binary post () y0 := by
  subst e0
  unfold wpX_binary
  refine br_f (by decide +kernel) ?_
  refine br_f (by decide +kernel) ?_
  refine br_f (by decide +kernel) ?_
  refine br_f (by decide +kernel) ?_
  refine br_t (by decide +kernel) ?_
  exact h
theorem qc_145 {post : Int32 → Prop} {y0 : Int32} (e0 : y0 = 6) (h : post 2) : wpX_rank post () y0 := by
  subst e0
  unfold wpX_rank
  refine br_f (by decide +kernel) ?_
  refine br_f (by decide +kernel) ?_
  refine br_f (by decide +kernel) ?_
  refine br_f (by decide +kernel) ?_
  exact h
theorem qc_146 {t : Nat} {va : Nat → Int32} {post : St2 → Prop} {y0 : Int32} (e0 : y0 = 2) (h : post (30, 15, 0, 0, 1, 1, 0, 0, 0, 0, 9, 0, 0, 0, 0, (qa_1_30 t), qa_2_7, qa_8_20, qa_4_7, qa_8_19, qa_8_21, qa_7_3, qa_8_1, qa_9_9, (qa_10_9 t), (fun _ => 0), (fun _ => 0), va)) : wpX_reduceTo post (30, 15, 0, 0, 1, 1, 0, 0, 0, 0, 9, 0, 0, 0, 0, (qa_1_30 t), qa_2_7, qa_8_20, qa_4_7, qa_8_19, qa_8_21, qa_7_3, qa_8_1, qa_9_9, (qa_10_9 t), (fun _ => 0), (fun _ => 0), va) y0 := by
  subst e0
  unfold wpX_reduceTo
  dsimp only
  refine Exists.intro 1 ?_
  refine br_f (by decide +kernel) ?_
  refine br_t (by decide +kernel) ?_
  exact h
def qa_7_4 : Nat → Int32 := upd qa_7_3 0 6
theorem qc_147 {t : Nat} {va : Nat → Int32} {post : St2 → Prop} {y0 : Int32} (e0 : y0 = 6) (h : post (30, 15, 0, 0, 1, 1, 1, 0, 0, 0, 9, 0, 0, 0, 0, (qa_1_30 t), qa_2_7, qa_8_20, qa_4_7, qa_8_19, qa_8_21, qa_7_4, qa_8_1, qa_9_9, (qa_10_9 t), (fun _ => 0), (fun _ => 0), va)) : wpX_pushWait post (30, 15, 0, 0, 1, 1, 0, 0, 0, 0, 9, 0, 0, 0, 0, (qa_1_30 t), qa_2_7, qa_8_20, qa_4_7, qa_8_19, qa_8_21, qa_7_3, qa_8_1, qa_9_9, (qa_10_9 t), (fun _ => 0), (fun _ => 0), va) y0 := by
  subst e0
  unfold wpX_pushWait
  dsimp only
  refine br_t (by decide +kernel) ?_
  refine qh_in (by decide +kernel) ?_
  refine nm_r (e' := qa_7_4) (qh_up (by decide +kernel) (by decide +kernel)) ?_
  refine nm_r (e' := (1 : Int32)) (by decide +kernel) ?_
  refine br_f (by decide +kernel) ?_
  refine br_f (by decide +kernel) ?_
  exact h
theorem qc_148 {t : Nat} {va : Nat → Int32} {post : Int32 → St2 → Prop} (h : post 1 (30, 16, 0, 0, 1, 1, 1, 0, 0, 0, 9, 0, 0, 0, 0, (qa_1_30 t), qa_2_7, qa_8_20, qa_4_7, qa_8_19, qa_8_21, qa_7_4, qa_8_1, qa_9_9, (qa_10_9 t), (fun _ => 0), (fun _ => 0), va)) : wpX_readOperator post (30, 15, 0, 0, 1, 1, 0, 0, 0, 0, 9, 0, 0, 0, 0, (qa_1_30 t), qa_2_7, qa_8_20, qa_4_7, qa_8_19, qa_8_21, qa_7_3, qa_8_1, qa_9_9, (qa_10_9 t), (fun _ => 0), (fun _ => 0), va) := by
  unfold wpX_readOperator
  dsimp only
  refine qh_peek (k := 15) (q := 60) (by decide +kernel) (by decide +kernel) (by decide +kernel) qs_15 (by decide +kernel) (by omega) ?_
  refine qc_144 (by decide +kernel) ?_
  refine br_f (by decide +kernel) ?_
  refine qc_145 (by decide +kernel) ?_
  refine qc_146 (by decide +kernel) ?_
  dsimp only
  refine qc_147 (by decide +kernel) ?_
  dsimp only
  refine nm_r (e' := (16 : Int32)) (by decide +kernel) ?_
  exact h
def qa_2_8 : Nat → Int32 := upd qa_2_7 1 2
def qa_8_22 : Nat → Int32 := upd qa_8_20 1 2
def qa_4_8 : Nat → Int32 := upd qa_4_7 1 (-1)
theorem qc_149 {t : Nat} {va : Nat → Int32} {post : Int32 → St2 → Prop} {y0 y1 y2 : Int32} (e0 : y0 = 2) (e1 : y1 = 2) (e2 : y2 = (-1)) (h : post 1 (30, 16, 0, 0, 2, 1, 1, 0, 0, 0, 9, 0, 0, 0, 0, (qa_1_30 t), qa_2_8, qa_8_22, qa_4_8, qa_8_19, qa_8_21, qa_7_4, qa_8_1, qa_9_9, (qa_10_9 t), (fun _ => 0), (fun _ => 0), va)) : wpX_newNode post (30, 16, 0, 0, 1, 1, 1, 0, 0, 0, 9, 0, 0, 0, 0, (qa_1_30 t), qa_2_7, qa_8_20, qa_4_7, qa_8_19, qa_8_21, qa_7_4, qa_8_1, qa_9_9, (qa_10_9 t), (fun _ => 0), (fun _ => 0), va) y0 y1 y2 := by
  subst e0 e1 e2
  unfold wpX_newNode
  dsimp only
  refine br_f (by decide +kernel) ?_
  refine qh_in (by decide +kernel) ?_
  refine nm_r (e' := qa_2_8) (qh_up (by decide +kernel) (by decide +kernel)) ?_
  refine qh_in (by decide +kernel) ?_
  refine nm_r (e' := qa_8_22) (qh_up (by decide +kernel) (by decide +kernel)) ?_
  refine qh_in (by decide +kernel) ?_
  refine nm_r (e' := qa_4_8) (qh_up (by decide +kernel) (by decide +kernel)) ?_
  refine nm_r (e' := (2 : Int32)) (by decide +kernel) ?_
  exact h
def qa_8_23 : Nat → Int32 := upd qa_8_21 1 1
theorem qc_150 {t : Nat} {va : Nat → Int32} {post : St2 → Prop} {y0 : Int32} (e0 : y0 = 1) (h : post (30, 16, 0, 0, 2, 2, 1, 0, 0, 0, 9, 0, 0, 0, 0, (qa_1_30 t), qa_2_8, qa_8_22, qa_4_8, qa_8_19, qa_8_23, qa_7_4, qa_8_1, qa_9_9, (qa_10_9 t), (fun _ => 0), (fun _ => 0), va)) : wpX_pushTree post (30, 16, 0, 0, 2, 1, 1, 0, 0, 0, 9, 0, 0, 0, 0, (qa_1_30 t), qa_2_8, qa_8_22, qa_4_8, qa_8_19, qa_8_21, qa_7_4, qa_8_1, qa_9_9, (qa_10_9 t), (fun _ => 0), (fun _ => 0), va) y0 := by
  subst e0
  unfold wpX_pushTree
  dsimp only
  refine br_t (by decide +kernel) ?_
  refine qh_in (by decide +kernel) ?_
  refine nm_r (e' := qa_8_23) (qh_up (by decide +kernel) (by decide +kernel)) ?_
  refine nm_r (e' := (2 : Int32)) (by decide +kernel) ?_
  exact h
theorem qc_151 {t : Nat} {va : Nat → Int32} {post : St2 → Prop} (h : post (30, 17, 0, 0, 2, 2, 1, 0, 0, 0, 9, 0, 0, 0, 0, (qa_1_30 t), qa_2_8, qa_8_22, qa_4_8, qa_8_19, qa_8_23, qa_7_4, qa_8_1, qa_9_9, (qa_10_9 t), (fun _ => 0), (fun _ => 0), va)) : wpX_factorDone post (30, 17, 0, 0, 2, 2, 1, 0, 0, 0, 9, 0, 0, 0, 0, (qa_1_30 t), qa_2_8, qa_8_22, qa_4_8, qa_8_19, qa_8_23, qa_7_4, qa_8_1, qa_9_9, (qa_10_9 t), (fun _ => 0), (fun _ => 0), va) := by
  unfold wpX_factorDone
  dsimp only
  refine Exists.intro 1 ?_
  refine br_f (by decide +kernel) ?_
  refine br_f (by decide +kernel) ?_
  refine qh_in (by decide +kernel) ?_
  refine br_f (by decide +kernel) ?_
  exact h
theorem qc_152 {t : Nat} {va : Nat → Int32} {post : Int32 → St2 → Prop} (h : post 1 (30, 17, 0, 0, 2, 2, 1, 0, 0, 0, 9, 0, 0, 0, 0, (qa_1_30 t), qa_2_8, qa_8_22, qa_4_8, qa_8_19, qa_8_23, qa_7_4, qa_8_1, qa_9_9, (qa_10_9 t), (fun _ => 0), (fun _ => 0), va)) : wpX_readOperand post (30, 16, 0, 0, 1, 1, 1, 0, 0, 0, 9, 0, 0, 0, 0, (qa_1_30 t), qa_2_7, qa_8_20, qa_4_7, qa_8_19, qa_8_21, qa_7_4, qa_8_1, qa_9_9, (qa_10_9 t), (fun _ => 0), (fun _ => 0), va) := by
  unfold wpX_readOperand
  dsimp only
  refine qh_peek (k := 16) (q := 99) (by decide +kernel) (by decide +kernel) (by decide +kernel) qs_16 (by decide +kernel) (by omega) ?_
  refine qc_34 (by decide +kernel) ?_
  refine br_t (by decide +kernel) ?_
  refine qc_35 (by decide +kernel) ?_
  refine br_f (by decide +kernel) ?_
  refine qc_149 (by decide +kernel) (by decide +kernel) (by decide +kernel) ?_
  dsimp only
  refine qc_150 (by decide +kernel) ?_
  dsimp only
  refine nm_r (e' := (17 : Int32)) (by decide +kernel) ?_
  refine qc_151 ?_
  dsimp only
  exact h
theorem qc_153 {post : Int32 → Prop} {y0 : Int32} (e0 : y0 = 123) (h : post 0) : wpX_binary post () y0 := by
  subst e0
  unfold wpX_binary
  refine br_f (by decide +kernel) ?_
  refine br_f (by decide +kernel) ?_
  refine br_f (by decide +kernel) ?_
  refine br_f (by decide +kernel) ?_
  refine br_f (by decide +kernel) ?_
  exact h
theorem qc_154 {t : Nat} {va : Nat → Int32} {post : Int32 → St2 → Prop} (h : post (-1) (30, 17, 0, 0, 2, 2, 1, 0, 0, 0, 9, 0, 0, 0, 0, (qa_1_30 t), qa_2_8, qa_8_22, qa_4_8, qa_8_19, qa_8_23, qa_7_4, qa_8_1, qa_9_9, (qa_10_9 t), (fun _ => 0), (fun _ => 0), va)) : wpX_readOperator post (30, 17, 0, 0, 2, 2, 1, 0, 0, 0, 9, 0, 0, 0, 0, (qa_1_30 t), qa_2_8, qa_8_22, qa_4_8, qa_8_19, qa_8_23, qa_7_4, qa_8_1, qa_9_9, (qa_10_9 t), (fun _ => 0), (fun _ => 0), va) := by
  unfold wpX_readOperator
  dsimp only
  refine qh_peek (k := 17) (q := 123) (by decide +kernel) (by decide +kernel) (by decide +kernel) qs_17 (by decide +kernel) (by omega) ?_
  refine qc_153 (by decide +kernel) ?_
  refine br_t (by decide +kernel) ?_
  refine br_f (by decide +kernel) ?_
  exact h
def qa_2_9 : Nat → Int32 := upd qa_2_8 2 6
def qa_8_24 : Nat → Int32 := upd qa_8_22 2 0
def qa_4_9 : Nat → Int32 := upd qa_4_8 2 1
theorem qc_155 {t : Nat} {va : Nat → Int32} {post : Int32 → St2 → Prop} {y0 y1 y2 : Int32} (e0 : y0 = 6) (e1 : y1 = 0) (e2 : y2 = 1) (h : post 2 (30, 17, 0, 0, 3, 2, 0, 0, 0, 0, 9, 0, 0, 0, 0, (qa_1_30 t), qa_2_9, qa_8_24, qa_4_9, qa_8_19, qa_8_23, qa_7_4, qa_8_1, qa_9_9, (qa_10_9 t), (fun _ => 0), (fun _ => 0), va)) : wpX_newNode post (30, 17, 0, 0, 2, 2, 0, 0, 0, 0, 9, 0, 0, 0, 0, (qa_1_30 t), qa_2_8, qa_8_22, qa_4_8, qa_8_19, qa_8_23, qa_7_4, qa_8_1, qa_9_9, (qa_10_9 t), (fun _ => 0), (fun _ => 0), va) y0 y1 y2 := by
  subst e0 e1 e2
  unfold wpX_newNode
  dsimp only
  refine br_f (by decide +kernel) ?_
  refine qh_in (by decide +kernel) ?_
  refine nm_r (e' := qa_2_9) (qh_up (by decide +kernel) (by decide +kernel)) ?_
  refine qh_in (by decide +kernel) ?_
  refine nm_r (e' := qa_8_24) (qh_up (by decide +kernel) (by decide +kernel)) ?_
  refine qh_in (by decide +kernel) ?_
  refine nm_r (e' := qa_4_9) (qh_up (by decide +kernel) (by decide +kernel)) ?_
  refine nm_r (e' := (3 : Int32)) (by decide +kernel) ?_
  exact h
def qa_8_25 : Nat → Int32 := upd qa_8_23 0 2
theorem qc_156 {t : Nat} {va : Nat → Int32} {post : St2 → Prop} (h : post (30, 17, 0, 0, 3, 1, 0, 0, 0, 0, 9, 0, 0, 0, 0, (qa_1_30 t), qa_2_9, qa_8_24, qa_4_9, qa_8_19, qa_8_25, qa_7_4, qa_8_1, qa_9_9, (qa_10_9 t), (fun _ => 0), (fun _ => 0), va)) : wpX_reduce post (30, 17, 0, 0, 2, 2, 1, 0, 0, 0, 9, 0, 0, 0, 0, (qa_1_30 t), qa_2_8, qa_8_22, qa_4_8, qa_8_19, qa_8_23, qa_7_4, qa_8_1, qa_9_9, (qa_10_9 t), (fun _ => 0), (fun _ => 0), va) := by
  unfold wpX_reduce
  dsimp only
  refine nm_r (e' := (0 : Int32)) (by decide +kernel) ?_
  refine qh_in (by decide +kernel) ?_
  refine nm_r (e' := (6 : Int32)) (by decide +kernel) ?_
  refine br_f (by decide +kernel) ?_
  refine qh_in (by decide +kernel) ?_
  refine qh_in (by decide +kernel) ?_
  refine qc_155 (by decide +kernel) (by decide +kernel) (by decide +kernel) ?_
  dsimp only
  refine nm_r (e' := (1 : Int32)) (by decide +kernel) ?_
  refine qh_in (by decide +kernel) ?_
  refine nm_r (e' := qa_8_25) (qh_up (by decide +kernel) (by decide +kernel)) ?_
  exact h
theorem qc_157 {t : Nat} {va : Nat → Int32} {post : St2 → Prop} {y0 : Int32} (e0 : y0 = 1) (h : post (30, 17, 0, 0, 3, 1, 0, 0, 0, 0, 9, 0, 0, 0, 0, (qa_1_30 t), qa_2_9, qa_8_24, qa_4_9, qa_8_19, qa_8_25, qa_7_4, qa_8_1, qa_9_9, (qa_10_9 t), (fun _ => 0), (fun _ => 0), va)) : wpX_reduceTo post (30, 17, 0, 0, 2, 2, 1, 0, 0, 0, 9, 0, 0, 0, 0, (qa_1_30 t), qa_2_8, qa_8_22, qa_4_8, qa_8_19, qa_8_23, qa_7_4, qa_8_1, qa_9_9, (qa_10_9 t), (fun _ => 0), (fun _ => 0), va) y0 := by
  subst e0
  unfold wpX_reduceTo
  dsimp only
  refine Exists.intro 2 ?_
  refine br_f (by decide +kernel) ?_
  refine br_f (by decide +kernel) ?_
  refine qh_in (by decide +kernel) ?_
  refine qc_145 (by decide +kernel) ?_
  refine br_f (by decide +kernel) ?_
  refine qc_156 ?_
  dsimp only
  refine nm_r (e' := (1 : Int32)) (by decide +kernel) ?_
  refine br_f (by decide +kernel) ?_
  refine br_t (by decide +kernel) ?_
  exact h
def qa_8_26 : Nat → Int32 := upd qa_8_19 0 0
def qa_8_27 : Nat → Int32 := upd qa_8_26 1 0
def qa_8_28 : Nat → Int32 := upd qa_8_27 2 0
def qa_8_29 : Nat → Int32 := upd qa_8_28 0 1
def qa_8_30 : Nat → Int32 := upd qa_8_29 1 1
def qa_9_10 : Nat → Int32 := upd qa_9_9 9 2
def qa_10_10 (t : Nat) : Nat → Int32 := upd (qa_10_9 t) 9 1
theorem qc_158 {t : Nat} {va : Nat → Int32} {post : St2 → Prop} {y0 y1 : Int32} (e0 : y0 = 2) (e1 : y1 = 1) (h : post (30, 17, 0, 0, 3, 1, 0, 0, 0, 0, 10, 0, 0, 0, 0, (qa_1_30 t), qa_2_9, qa_8_24, qa_4_9, qa_8_30, qa_8_25, qa_7_4, qa_8_1, qa_9_10, (qa_10_10 t), (fun _ => 0), (fun _ => 0), va)) : wpX_put post (30, 17, 0, 0, 3, 1, 0, 0, 0, 0, 9, 0, 0, 0, 0, (qa_1_30 t), qa_2_9, qa_8_24, qa_4_9, qa_8_30, qa_8_25, qa_7_4, qa_8_1, qa_9_9, (qa_10_9 t), (fun _ => 0), (fun _ => 0), va) y0 y1 := by
  subst e0 e1
  unfold wpX_put
  dsimp only
  refine br_t (by decide +kernel) ?_
  refine qh_in (by decide +kernel) ?_
  refine nm_r (e' := qa_9_10) (qh_up (by decide +kernel) (by decide +kernel)) ?_
  refine qh_in (by decide +kernel) ?_
  refine nm_r (e' := (qa_10_10 t)) (qh_up (by decide +kernel) (by decide +kernel)) ?_
  refine nm_r (e' := (10 : Int32)) (by decide +kernel) ?_
  exact h
def qa_9_11 : Nat → Int32 := upd qa_9_10 10 2
def qa_10_11 (t : Nat) : Nat → Int32 := upd (qa_10_10 t) 10 2
theorem qc_159 {t : Nat} {va : Nat → Int32} {post : St2 → Prop} {y0 y1 : Int32} (e0 : y0 = 2) (e1 : y1 = 2) (h : post (30, 17, 0, 0, 3, 1, 0, 0, 0, 0, 11, 0, 0, 0, 0, (qa_1_30 t), qa_2_9, qa_8_24, qa_4_9, qa_8_30, qa_8_25, qa_7_4, qa_8_1, qa_9_11, (qa_10_11 t), (fun _ => 0), (fun _ => 0), va)) : wpX_put post (30, 17, 0, 0, 3, 1, 0, 0, 0, 0, 10, 0, 0, 0, 0, (qa_1_30 t), qa_2_9, qa_8_24, qa_4_9, qa_8_30, qa_8_25, qa_7_4, qa_8_1, qa_9_10, (qa_10_10 t), (fun _ => 0), (fun _ => 0), va) y0 y1 := by
  subst e0 e1
  unfold wpX_put
  dsimp only
  refine br_t (by decide +kernel) ?_
  refine qh_in (by decide +kernel) ?_
  refine nm_r (e' := qa_9_11) (qh_up (by decide +kernel) (by decide +kernel)) ?_
  refine qh_in (by decide +kernel) ?_
  refine nm_r (e' := (qa_10_11 t)) (qh_up (by decide +kernel) (by decide +kernel)) ?_
  refine nm_r (e' := (11 : Int32)) (by decide +kernel) ?_
  exact h
theorem qc_160 {t : Nat} {va : Nat → Int32} {post : St2 → Prop} {y0 : Int32} (e0 : y0 = 1) (h : post (30, 17, 0, 0, 3, 1, 0, 0, 0, 0, 11, 0, 0, 0, 0, (qa_1_30 t), qa_2_9, qa_8_24, qa_4_9, qa_8_30, qa_8_25, qa_7_4, qa_8_1, qa_9_11, (qa_10_11 t), (fun _ => 0), (fun _ => 0), va)) : wpX_emitLevel post (30, 17, 0, 0, 3, 1, 0, 0, 0, 0, 9, 0, 0, 0, 0, (qa_1_30 t), qa_2_9, qa_8_24, qa_4_9, qa_8_30, qa_8_25, qa_7_4, qa_8_1, qa_9_9, (qa_10_9 t), (fun _ => 0), (fun _ => 0), va) y0 := by
  subst e0
  unfold wpX_emitLevel
  dsimp only
  refine Exists.intro 4 ?_
  refine br_f (by decide +kernel) ?_
  refine qh_in (by decide +kernel) ?_
  refine br_t (by decide +kernel) ?_
  refine qh_in (by decide +kernel) ?_
  refine qh_in (by decide +kernel) ?_
  refine qc_158 (by decide +kernel) (by decide +kernel) ?_
  dsimp only
  refine nm_r (e' := (1 : Int32)) (by decide +kernel) ?_
  refine br_f (by decide +kernel) ?_
  refine qh_in (by decide +kernel) ?_
  refine br_t (by decide +kernel) ?_
  refine qh_in (by decide +kernel) ?_
  refine qh_in (by decide +kernel) ?_
  refine qc_159 (by decide +kernel) (by decide +kernel) ?_
  dsimp only
  refine nm_r (e' := (2 : Int32)) (by decide +kernel) ?_
  refine br_f (by decide +kernel) ?_
  refine qh_in (by decide +kernel) ?_
  refine br_f (by decide +kernel) ?_
  refine nm_r (e' := (3 : Int32)) (by decide +kernel) ?_
  refine br_t (by decide +kernel) ?_
  exact h
def qa_9_12 : Nat → Int32 := upd qa_9_11 11 6
def qa_10_12 (t : Nat) : Nat → Int32 := upd (qa_10_11 t) 11 0
theorem qc_161 {t : Nat} {va : Nat → Int32} {post : St2 → Prop} {y0 y1 : Int32} (e0 : y0 = 6) (e1 : y1 = 0) (h : post (30, 17, 0, 0, 3, 1, 0, 0, 0, 0, 12, 0, 0, 0, 0, (qa_1_30 t), qa_2_9, qa_8_24, qa_4_9, qa_8_30, qa_8_25, qa_7_4, qa_8_1, qa_9_12, (qa_10_12 t), (fun _ => 0), (fun _ => 0), va)) : wpX_put post (30, 17, 0, 0, 3, 1, 0, 0, 0, 0, 11, 0, 0, 0, 0, (qa_1_30 t), qa_2_9, qa_8_24, qa_4_9, qa_8_30, qa_8_25, qa_7_4, qa_8_1, qa_9_11, (qa_10_11 t), (fun _ => 0), (fun _ => 0), va) y0 y1 := by
  subst e0 e1
  unfold wpX_put
  dsimp only
  refine br_t (by decide +kernel) ?_
  refine qh_in (by decide +kernel) ?_
  refine nm_r (e' := qa_9_12) (qh_up (by decide +kernel) (by decide +kernel)) ?_
  refine qh_in (by decide +kernel) ?_
  refine nm_r (e' := (qa_10_12 t)) (qh_up (by decide +kernel) (by decide +kernel)) ?_
  refine nm_r (e' := (12 : Int32)) (by decide +kernel) ?_
  exact h
theorem qc_162 {t : Nat} {va : Nat → Int32} {post : St2 → Prop} {y0 : Int32} (e0 : y0 = 0) (h : post (30, 17, 0, 0, 3, 1, 0, 0, 0, 0, 12, 0, 0, 0, 0, (qa_1_30 t), qa_2_9, qa_8_24, qa_4_9, qa_8_30, qa_8_25, qa_7_4, qa_8_1, qa_9_12, (qa_10_12 t), (fun _ => 0), (fun _ => 0), va)) : wpX_emitLevel post (30, 17, 0, 0, 3, 1, 0, 0, 0, 0, 11, 0, 0, 0, 0, (qa_1_30 t), qa_2_9, qa_8_24, qa_4_9, qa_8_30, qa_8_25, qa_7_4, qa_8_1, qa_9_11, (qa_10_11 t), (fun _ => 0), (fun _ => 0), va) y0 := by
  subst e0
  unfold wpX_emitLevel
  dsimp only
  refine Exists.intro 4 ?_
  refine br_f (by decide +kernel) ?_
  refine qh_in (by decide +kernel) ?_
  refine br_f (by decide +kernel) ?_
  refine nm_r (e' := (1 : Int32)) (by decide +kernel) ?_
  refine br_f (by decide +kernel) ?_
  refine qh_in (by decide +kernel) ?_
  refine br_f (by decide +kernel) ?_
  refine nm_r (e' := (2 : Int32)) (by decide +kernel) ?_
  refine br_f (by decide +kernel) ?_
  refine qh_in (by decide +kernel) ?_
  refine br_t (by decide +kernel) ?_
  refine qh_in (by decide +kernel) ?_
  refine qh_in (by decide +kernel) ?_
  refine qc_161 (by decide +kernel) (by decide +kernel) ?_
  dsimp only
  refine nm_r (e' := (3 : Int32)) (by decide +kernel) ?_
  refine br_t (by decide +kernel) ?_
  exact h
theorem qc_163 {t : Nat} {va : Nat → Int32} {post : St2 → Prop} {y0 : Int32} (e0 : y0 = 2) (h : post (30, 17, 0, 0, 3, 1, 0, 0, 0, 0, 12, 0, 0, 0, 0, (qa_1_30 t), qa_2_9, qa_8_24, qa_4_9, qa_8_30, qa_8_25, qa_7_4, qa_8_1, qa_9_12, (qa_10_12 t), (fun _ => 0), (fun _ => 0), va)) : wpX_emitTree post (30, 17, 0, 0, 3, 1, 0, 0, 0, 0, 9, 0, 0, 0, 0, (qa_1_30 t), qa_2_9, qa_8_24, qa_4_9, qa_8_19, qa_8_25, qa_7_4, qa_8_1, qa_9_9, (qa_10_9 t), (fun _ => 0), (fun _ => 0), va) y0 := by
  subst e0
  unfold wpX_emitTree
  dsimp only
  refine Exists.intro 4 ?_
  refine br_f (by decide +kernel) ?_
  refine qh_in (by decide +kernel) ?_
  refine nm_r (e' := qa_8_26) (qh_up (by decide +kernel) (by decide +kernel)) ?_
  refine nm_r (e' := (1 : Int32)) (by decide +kernel) ?_
  refine br_f (by decide +kernel) ?_
  refine qh_in (by decide +kernel) ?_
  refine nm_r (e' := qa_8_27) (qh_up (by decide +kernel) (by decide +kernel)) ?_
  refine nm_r (e' := (2 : Int32)) (by decide +kernel) ?_
  refine br_f (by decide +kernel) ?_
  refine qh_in (by decide +kernel) ?_
  refine nm_r (e' := qa_8_28) (qh_up (by decide +kernel) (by decide +kernel)) ?_
  refine nm_r (e' := (3 : Int32)) (by decide +kernel) ?_
  refine br_t (by decide +kernel) ?_
  refine Exists.intro 4 ?_
  refine br_f (by decide +kernel) ?_
  refine qh_in (by decide +kernel) ?_
  refine br_f (by decide +kernel) ?_
  refine qh_in (by decide +kernel) ?_
  refine qh_in (by decide +kernel) ?_
  refine qh_in (by decide +kernel) ?_
  refine nm_r (e' := qa_8_29) (qh_up (by decide +kernel) (by decide +kernel)) ?_
  refine qh_in (by decide +kernel) ?_
  refine br_f (by decide +kernel) ?_
  refine qh_in (by decide +kernel) ?_
  refine br_f (by decide +kernel) ?_
  refine qh_in (by decide +kernel) ?_
  refine qh_in (by decide +kernel) ?_
  refine qh_in (by decide +kernel) ?_
  refine nm_r (e' := qa_8_30) (qh_up (by decide +kernel) (by decide +kernel)) ?_
  refine qh_in (by decide +kernel) ?_
  refine br_t (by decide +kernel) ?_
  refine nm_r (e' := (1 : Int32)) (by decide +kernel) ?_
  refine br_f (by decide +kernel) ?_
  refine qh_in (by decide +kernel) ?_
  refine br_t (by decide +kernel) ?_
  refine qh_in (by decide +kernel) ?_
  refine br_t (by decide +kernel) ?_
  refine qh_in (by decide +kernel) ?_
  refine br_f (by decide +kernel) ?_
  refine qh_in (by decide +kernel) ?_
  refine nm_r (e' := (1 : Int32)) (by decide +kernel) ?_
  refine nm_r (e' := (0 : Int32)) (by decide +kernel) ?_
  refine br_f (by decide +kernel) ?_
  refine qh_in (by decide +kernel) ?_
  refine br_t (by decide +kernel) ?_
  refine qh_in (by decide +kernel) ?_
  refine br_t (by decide +kernel) ?_
  refine qh_in (by decide +kernel) ?_
  refine br_t (by decide +kernel) ?_
  refine nm_r (e' := ((-1) : Int32)) (by decide +kernel) ?_
  refine br_t (by decide +kernel) ?_
  refine Exists.intro 3 ?_
  refine br_f (by decide +kernel) ?_
  refine qc_160 (by decide +kernel) ?_
  dsimp only
  refine nm_r (e' := (0 : Int32)) (by decide +kernel) ?_
  refine br_f (by decide +kernel) ?_
  refine qc_162 (by decide +kernel) ?_
  dsimp only
  refine nm_r (e' := ((-1) : Int32)) (by decide +kernel) ?_
  refine br_t (by decide +kernel) ?_
  exact h
theorem qc_164 {t : Nat} {va : Nat → Int32} {post : St2 → Prop} (h : post (30, 17, 0, 0, 3, 1, 0, 0, 0, 0, 12, 0, 0, 0, 0, (qa_1_30 t), qa_2_9, qa_8_24, qa_4_9, qa_8_30, qa_8_25, qa_7_4, qa_8_1, qa_9_12, (qa_10_12 t), (fun _ => 0), (fun _ => 0), va)) : wpX_sum post (30, 14, 0, 0, 6, 1, 0, 0, 0, 0, 9, 0, 0, 0, 0, (qa_1_30 t), qa_2_6, qa_8_8, qa_4_6, qa_8_19, qa_8_9, qa_7_3, qa_8_1, qa_9_9, (qa_10_9 t), (fun _ => 0), (fun _ => 0), va) := by
  unfold wpX_sum
  dsimp only
  refine Exists.intro 5 ?_
  refine br_f (by decide +kernel) ?_
  refine br_f (by decide +kernel) ?_
  refine br_t (by decide +kernel) ?_
  refine br_f (by decide +kernel) ?_
  refine qc_143 ?_
  dsimp only
  refine br_f (by decide +kernel) ?_
  refine nm_r (e' := (1 : Int32)) (by decide +kernel) ?_
  refine br_f (by decide +kernel) ?_
  refine br_f (by decide +kernel) ?_
  refine br_t (by decide +kernel) ?_
  refine br_t (by decide +kernel) ?_
  refine qc_148 ?_
  dsimp only
  refine br_t (by decide +kernel) ?_
  refine br_t (by decide +kernel) ?_
  refine nm_r (e' := (2 : Int32)) (by decide +kernel) ?_
  refine br_f (by decide +kernel) ?_
  refine br_f (by decide +kernel) ?_
  refine br_t (by decide +kernel) ?_
  refine br_f (by decide +kernel) ?_
  refine qc_152 ?_
  dsimp only
  refine br_f (by decide +kernel) ?_
  refine nm_r (e' := (3 : Int32)) (by decide +kernel) ?_
  refine br_f (by decide +kernel) ?_
  refine br_f (by decide +kernel) ?_
  refine br_t (by decide +kernel) ?_
  refine br_t (by decide +kernel) ?_
  refine qc_154 ?_
  dsimp only
  refine br_f (by decide +kernel) ?_
  refine br_f (by decide +kernel) ?_
  refine nm_r (e' := (4 : Int32)) (by decide +kernel) ?_
  refine br_f (by decide +kernel) ?_
  refine br_t (by decide +kernel) ?_
  refine br_t (by decide +kernel) ?_
  refine qc_157 (by decide +kernel) ?_
  dsimp only
  refine br_t (by decide +kernel) ?_
  refine qc_163 (by decide +kernel) ?_
  dsimp only
  exact h
theorem qc_165 {t : Nat} {va : Nat → Int32} {post : Int32 → St2 → Prop} {y0 : Int32} (e0 : y0 = 123) (h : post 1 (30, 18, 0, 0, 3, 1, 0, 0, 0, 0, 12, 0, 0, 0, 0, (qa_1_30 t), qa_2_9, qa_8_24, qa_4_9, qa_8_30, qa_8_25, qa_7_4, qa_8_1, qa_9_12, (qa_10_12 t), (fun _ => 0), (fun _ => 0), va)) : wpX_accept post (30, 17, 0, 0, 3, 1, 0, 0, 0, 0, 12, 0, 0, 0, 0, (qa_1_30 t), qa_2_9, qa_8_24, qa_4_9, qa_8_30, qa_8_25, qa_7_4, qa_8_1, qa_9_12, (qa_10_12 t), (fun _ => 0), (fun _ => 0), va) y0 := by
  subst e0
  unfold wpX_accept
  dsimp only
  refine qh_peek (k := 17) (q := 123) (by decide +kernel) (by decide +kernel) (by decide +kernel) qs_17 (by decide +kernel) (by omega) ?_
  refine br_t (by decide +kernel) ?_
  refine nm_r (e' := (18 : Int32)) (by decide +kernel) ?_
  exact h
def qa_8_31 : Nat → Int32 := upd qa_8_1 0 12
def qa_9_13 : Nat → Int32 := upd qa_9_12 12 11
def qa_10_13 (t : Nat) : Nat → Int32 := upd (qa_10_12 t) 12 0
theorem qc_166 {t : Nat} {va : Nat → Int32} {post : St2 → Prop} {y0 y1 : Int32} (e0 : y0 = 11) (e1 : y1 = 0) (h : post (30, 18, 0, 0, 3, 1, 0, 0, 1, 0, 13, 0, 0, 0, 0, (qa_1_30 t), qa_2_9, qa_8_24, qa_4_9, qa_8_30, qa_8_25, qa_7_4, qa_8_31, qa_9_13, (qa_10_13 t), (fun _ => 0), (fun _ => 0), va)) : wpX_put post (30, 18, 0, 0, 3, 1, 0, 0, 1, 0, 12, 0, 0, 0, 0, (qa_1_30 t), qa_2_9, qa_8_24, qa_4_9, qa_8_30, qa_8_25, qa_7_4, qa_8_31, qa_9_12, (qa_10_12 t), (fun _ => 0), (fun _ => 0), va) y0 y1 := by
  subst e0 e1
  unfold wpX_put
  dsimp only
  refine br_t (by decide +kernel) ?_
  refine qh_in (by decide +kernel) ?_
  refine nm_r (e' := qa_9_13) (qh_up (by decide +kernel) (by decide +kernel)) ?_
  refine qh_in (by decide +kernel) ?_
  refine nm_r (e' := (qa_10_13 t)) (qh_up (by decide +kernel) (by decide +kernel)) ?_
  refine nm_r (e' := (13 : Int32)) (by decide +kernel) ?_
  exact h
theorem qc_167 {t : Nat} {va : Nat → Int32} {post : St2 → Prop} {y0 y1 : Int32} (e0 : y0 = 11) (e1 : y1 = 0) (h : post (30, 18, 0, 0, 3, 1, 0, 0, 1, 0, 13, 0, 0, 0, 0, (qa_1_30 t), qa_2_9, qa_8_24, qa_4_9, qa_8_30, qa_8_25, qa_7_4, qa_8_31, qa_9_13, (qa_10_13 t), (fun _ => 0), (fun _ => 0), va)) : wpX_open post (30, 18, 0, 0, 3, 1, 0, 0, 0, 0, 12, 0, 0, 0, 0, (qa_1_30 t), qa_2_9, qa_8_24, qa_4_9, qa_8_30, qa_8_25, qa_7_4, qa_8_1, qa_9_12, (qa_10_12 t), (fun _ => 0), (fun _ => 0), va) y0 y1 := by
  subst e0 e1
  unfold wpX_open
  dsimp only
  refine br_f (by decide +kernel) ?_
  refine qh_in (by decide +kernel) ?_
  refine nm_r (e' := qa_8_31) (qh_up (by decide +kernel) (by decide +kernel)) ?_
  refine nm_r (e' := (1 : Int32)) (by decide +kernel) ?_
  refine br_t (by decide +kernel) ?_
  refine qc_166 (by decide +kernel) (by decide +kernel) ?_
  dsimp only
  exact h
theorem qc_168 {t : Nat} {va : Nat → Int32} {post : St2 → Prop} (h : post (30, 18, 0, 0, 3, 1, 0, 0, 1, 0, 13, 0, 0, 0, 0, (qa_1_30 t), qa_2_9, qa_8_24, qa_4_9, qa_8_30, qa_8_25, qa_7_4, qa_8_31, qa_9_13, (qa_10_13 t), (fun _ => 0), (fun _ => 0), va)) : wpX_statement post (30, 13, 0, 0, 6, 1, 0, 0, 0, 0, 9, 0, 0, 0, 0, (qa_1_30 t), qa_2_6, qa_8_8, qa_4_6, qa_8_19, qa_8_9, qa_7_3, qa_8_1, qa_9_9, (qa_10_9 t), (fun _ => 0), (fun _ => 0), va) := by
  unfold wpX_statement
  dsimp only
  refine qh_peek (k := 13) (q := 63) (by decide +kernel) (by decide +kernel) (by decide +kernel) qs_13 (by decide +kernel) (by omega) ?_
  refine nm_r (e' := (14 : Int32)) (by decide +kernel) ?_
  refine qc_47 (by decide +kernel) ?_
  refine br_t (by decide +kernel) ?_
  refine br_t (by decide +kernel) ?_
  refine qc_164 ?_
  dsimp only
  refine qc_165 (by decide +kernel) ?_
  dsimp only
  refine qc_167 (by decide +kernel) (by decide +kernel) ?_
  dsimp only
  exact h
theorem qc_169 {t : Nat} {va : Nat → Int32} {post : Int32 → St2 → Prop} {y0 : Int32} (e0 : y0 = 61) (h : post 1 (30, 20, 0, 0, 3, 1, 0, 0, 1, 0, 13, 0, 0, 0, 0, (qa_1_30 t), qa_2_9, qa_8_24, qa_4_9, qa_8_30, qa_8_25, qa_7_4, qa_8_31, qa_9_13, (qa_10_13 t), (fun _ => 0), (fun _ => 0), va)) : wpX_accept post (30, 19, 0, 0, 3, 1, 0, 0, 1, 0, 13, 0, 0, 0, 0, (qa_1_30 t), qa_2_9, qa_8_24, qa_4_9, qa_8_30, qa_8_25, qa_7_4, qa_8_31, qa_9_13, (qa_10_13 t), (fun _ => 0), (fun _ => 0), va) y0 := by
  subst e0
  unfold wpX_accept
  dsimp only
  refine qh_peek (k := 19) (q := 61) (by decide +kernel) (by decide +kernel) (by decide +kernel) qs_19 (by decide +kernel) (by omega) ?_
  refine br_t (by decide +kernel) ?_
  refine nm_r (e' := (20 : Int32)) (by decide +kernel) ?_
  exact h
def qa_7_5 : Nat → Int32 := upd qa_7_4 0 8
theorem qc_170 {t : Nat} {va : Nat → Int32} {post : St2 → Prop} {y0 : Int32} (e0 : y0 = 8) (h : post (30, 20, 0, 0, 0, 0, 1, 1, 1, 0, 13, 0, 0, 0, 0, (qa_1_30 t), qa_2_9, qa_8_24, qa_4_9, qa_8_30, qa_8_25, qa_7_5, qa_8_31, qa_9_13, (qa_10_13 t), (fun _ => 0), (fun _ => 0), va)) : wpX_pushWait post (30, 20, 0, 0, 0, 0, 0, 0, 1, 0, 13, 0, 0, 0, 0, (qa_1_30 t), qa_2_9, qa_8_24, qa_4_9, qa_8_30, qa_8_25, qa_7_4, qa_8_31, qa_9_13, (qa_10_13 t), (fun _ => 0), (fun _ => 0), va) y0 := by
  subst e0
  unfold wpX_pushWait
  dsimp only
  refine br_t (by decide +kernel) ?_
  refine qh_in (by decide +kernel) ?_
  refine nm_r (e' := qa_7_5) (qh_up (by decide +kernel) (by decide +kernel)) ?_
  refine nm_r (e' := (1 : Int32)) (by decide +kernel) ?_
  refine br_t (by decide +kernel) ?_
  refine nm_r (e' := (1 : Int32)) (by decide +kernel) ?_
  refine br_t (by decide +kernel) ?_
  exact h
theorem qc_171 {t : Nat} {va : Nat → Int32} {post : Int32 → St2 → Prop} (h : post 0 (30, 21, 0, 0, 0, 0, 1, 1, 1, 0, 13, 0, 0, 0, 0, (qa_1_30 t), qa_2_9, qa_8_24, qa_4_9, qa_8_30, qa_8_25, qa_7_5, qa_8_31, qa_9_13, (qa_10_13 t), (fun _ => 0), (fun _ => 0), va)) : wpX_readOperand post (30, 20, 0, 0, 0, 0, 0, 0, 1, 0, 13, 0, 0, 0, 0, (qa_1_30 t), qa_2_9, qa_8_24, qa_4_9, qa_8_30, qa_8_25, qa_7_4, qa_8_31, qa_9_13, (qa_10_13 t), (fun _ => 0), (fun _ => 0), va) := by
  unfold wpX_readOperand
  dsimp only
  refine qh_peek (k := 20) (q := 45) (by decide +kernel) (by decide +kernel) (by decide +kernel) qs_20 (by decide +kernel) (by omega) ?_
  refine qc_30 (by decide +kernel) ?_
  refine br_t (by decide +kernel) ?_
  refine qc_31 (by decide +kernel) ?_
  refine br_t (by decide +kernel) ?_
  refine br_f (by decide +kernel) ?_
  refine br_t (by decide +kernel) ?_
  refine qc_170 (by decide +kernel) ?_
  dsimp only
  refine nm_r (e' := (21 : Int32)) (by decide +kernel) ?_
  exact h
end
section
def qa_7_6 : Nat → Int32 := upd qa_7_5 1 9
theorem qc_172 {t : Nat} {va : Nat → Int32} {post : St2 → Prop} {y0 : Int32} (e0 : y0 = 9) (h : post (30, 21, 0, 0, 0, 0, 2, 2, 1, 0, 13, 0, 0, 0, 0, (qa_1_30 t), qa_2_9, qa_8_24, qa_4_9, qa_8_30, qa_8_25, qa_7_6, qa_8_31, qa_9_13, (qa_10_13 t), (fun _ => 0), (fun _ => 0), va)) : wpX_pushWait post (30, 21, 0, 0, 0, 0, 1, 1, 1, 0, 13, 0, 0, 0, 0, (qa_1_30 t), qa_2_9, qa_8_24, qa_4_9, qa_8_30, qa_8_25, qa_7_5, qa_8_31, qa_9_13, (qa_10_13 t), (fun _ => 0), (fun _ => 0), va) y0 := by
  subst e0
  unfold wpX_pushWait
  dsimp only
  refine br_t (by decide +kernel) ?_
  refine qh_in (by decide +kernel) ?_
  refine nm_r (e' := qa_7_6) (qh_up (by decide +kernel) (by decide +kernel)) ?_
  refine nm_r (e' := (2 : Int32)) (by decide +kernel) ?_
  refine br_f (by decide +kernel) ?_
  refine br_t (by decide +kernel) ?_
  refine nm_r (e' := (2 : Int32)) (by decide +kernel) ?_
  refine br_t (by decide +kernel) ?_
  exact h
theorem qc_173 {t : Nat} {va : Nat → Int32} {post : Int32 → St2 → Prop} (h : post 0 (30, 22, 0, 0, 0, 0, 2, 2, 1, 0, 13, 0, 0, 0, 0, (qa_1_30 t), qa_2_9, qa_8_24, qa_4_9, qa_8_30, qa_8_25, qa_7_6, qa_8_31, qa_9_13, (qa_10_13 t), (fun _ => 0), (fun _ => 0), va)) : wpX_readOperand post (30, 21, 0, 0, 0, 0, 1, 1, 1, 0, 13, 0, 0, 0, 0, (qa_1_30 t), qa_2_9, qa_8_24, qa_4_9, qa_8_30, qa_8_25, qa_7_5, qa_8_31, qa_9_13, (qa_10_13 t), (fun _ => 0), (fun _ => 0), va) := by
  unfold wpX_readOperand
  dsimp only
  refine qh_peek (k := 21) (q := 40) (by decide +kernel) (by decide +kernel) (by decide +kernel) qs_21 (by decide +kernel) (by omega) ?_
  refine qc_63 (by decide +kernel) ?_
  refine br_t (by decide +kernel) ?_
  refine qc_64 (by decide +kernel) ?_
  refine br_t (by decide +kernel) ?_
  refine br_t (by decide +kernel) ?_
  refine qc_172 (by decide +kernel) ?_
  dsimp only
  refine nm_r (e' := (22 : Int32)) (by decide +kernel) ?_
  exact h
def qa_2_10 : Nat → Int32 := upd qa_2_9 0 2
def qa_8_32 : Nat → Int32 := upd qa_8_24 0 2
def qa_4_10 : Nat → Int32 := upd qa_4_9 0 (-1)
theorem qc_174 {t : Nat} {va : Nat → Int32} {post : Int32 → St2 → Prop} {y0 y1 y2 : Int32} (e0 : y0 = 2) (e1 : y1 = 2) (e2 : y2 = (-1)) (h : post 0 (30, 22, 0, 0, 1, 0, 2, 2, 1, 0, 13, 0, 0, 0, 0, (qa_1_30 t), qa_2_10, qa_8_32, qa_4_10, qa_8_30, qa_8_25, qa_7_6, qa_8_31, qa_9_13, (qa_10_13 t), (fun _ => 0), (fun _ => 0), va)) : wpX_newNode post (30, 22, 0, 0, 0, 0, 2, 2, 1, 0, 13, 0, 0, 0, 0, (qa_1_30 t), qa_2_9, qa_8_24, qa_4_9, qa_8_30, qa_8_25, qa_7_6, qa_8_31, qa_9_13, (qa_10_13 t), (fun _ => 0), (fun _ => 0), va) y0 y1 y2 := by
  subst e0 e1 e2
  unfold wpX_newNode
  dsimp only
  refine br_f (by decide +kernel) ?_
  refine qh_in (by decide +kernel) ?_
  refine nm_r (e' := qa_2_10) (qh_up (by decide +kernel) (by decide +kernel)) ?_
  refine qh_in (by decide +kernel) ?_
  refine nm_r (e' := qa_8_32) (qh_up (by decide +kernel) (by decide +kernel)) ?_
  refine qh_in (by decide +kernel) ?_
  refine nm_r (e' := qa_4_10) (qh_up (by decide +kernel) (by decide +kernel)) ?_
  refine nm_r (e' := (1 : Int32)) (by decide +kernel) ?_
  exact h
def qa_8_33 : Nat → Int32 := upd qa_8_25 0 0
theorem qc_175 {t : Nat} {va : Nat → Int32} {post : St2 → Prop} {y0 : Int32} (e0 : y0 = 0) (h : post (30, 22, 0, 0, 1, 1, 2, 2, 1, 0, 13, 0, 0, 0, 0, (qa_1_30 t), qa_2_10, qa_8_32, qa_4_10, qa_8_30, qa_8_33, qa_7_6, qa_8_31, qa_9_13, (qa_10_13 t), (fun _ => 0), (fun _ => 0), va)) : wpX_pushTree post (30, 22, 0, 0, 1, 0, 2, 2, 1, 0, 13, 0, 0, 0, 0, (qa_1_30 t), qa_2_10, qa_8_32, qa_4_10, qa_8_30, qa_8_25, qa_7_6, qa_8_31, qa_9_13, (qa_10_13 t), (fun _ => 0), (fun _ => 0), va) y0 := by
  subst e0
  unfold wpX_pushTree
  dsimp only
  refine br_t (by decide +kernel) ?_
  refine qh_in (by decide +kernel) ?_
  refine nm_r (e' := qa_8_33) (qh_up (by decide +kernel) (by decide +kernel)) ?_
  refine nm_r (e' := (1 : Int32)) (by decide +kernel) ?_
  exact h
theorem qc_176 {t : Nat} {va : Nat → Int32} {post : St2 → Prop} (h : post (30, 23, 0, 0, 1, 1, 2, 2, 1, 0, 13, 0, 0, 0, 0, (qa_1_30 t), qa_2_10, qa_8_32, qa_4_10, qa_8_30, qa_8_33, qa_7_6, qa_8_31, qa_9_13, (qa_10_13 t), (fun _ => 0), (fun _ => 0), va)) : wpX_factorDone post (30, 23, 0, 0, 1, 1, 2, 2, 1, 0, 13, 0, 0, 0, 0, (qa_1_30 t), qa_2_10, qa_8_32, qa_4_10, qa_8_30, qa_8_33, qa_7_6, qa_8_31, qa_9_13, (qa_10_13 t), (fun _ => 0), (fun _ => 0), va) := by
  unfold wpX_factorDone
  dsimp only
  refine Exists.intro 1 ?_
  refine br_f (by decide +kernel) ?_
  refine br_f (by decide +kernel) ?_
  refine qh_in (by decide +kernel) ?_
  refine br_f (by decide +kernel) ?_
  exact h
theorem qc_177 {t : Nat} {va : Nat → Int32} {post : Int32 → St2 → Prop} (h : post 1 (30, 23, 0, 0, 1, 1, 2, 2, 1, 0, 13, 0, 0, 0, 0, (qa_1_30 t), qa_2_10, qa_8_32, qa_4_10, qa_8_30, qa_8_33, qa_7_6, qa_8_31, qa_9_13, (qa_10_13 t), (fun _ => 0), (fun _ => 0), va)) : wpX_readOperand post (30, 22, 0, 0, 0, 0, 2, 2, 1, 0, 13, 0, 0, 0, 0, (qa_1_30 t), qa_2_9, qa_8_24, qa_4_9, qa_8_30, qa_8_25, qa_7_6, qa_8_31, qa_9_13, (qa_10_13 t), (fun _ => 0), (fun _ => 0), va) := by
  unfold wpX_readOperand
  dsimp only
  refine qh_peek (k := 22) (q := 99) (by decide +kernel) (by decide +kernel) (by decide +kernel) qs_22 (by decide +kernel) (by omega) ?_
  refine qc_34 (by decide +kernel) ?_
  refine br_t (by decide +kernel) ?_
  refine qc_35 (by decide +kernel) ?_
  refine br_f (by decide +kernel) ?_
  refine qc_174 (by decide +kernel) (by decide +kernel) (by decide +kernel) ?_
  dsimp only
  refine qc_175 (by decide +kernel) ?_
  dsimp only
  refine nm_r (e' := (23 : Int32)) (by decide +kernel) ?_
  refine qc_176 ?_
  dsimp only
  exact h
theorem qc_178 {post : Int32 → Prop} {y0 : Int32} (e0 : y0 = 45) (h : post 4) : wpX_binary post () y0 := by
  subst e0
  unfold wpX_binary
  refine br_f (by decide +kernel) ?_
  refine br_f (by decide +kernel) ?_
  refine br_f (by decide +kernel) ?_
  refine br_t (by decide +kernel) ?_
  exact h
theorem qc_179 {post : Int32 → Prop} {y0 : Int32} (e0 : y0 = 4) (h : post 1) : wpX_rank post () y0 := by
  subst e0
  unfold wpX_rank
  refine br_f (by decide +kernel) ?_
  refine br_t (by decide +kernel) ?_
  exact h
theorem qc_180 {post : Int32 → Prop} {y0 : Int32} (e0 : y0 = 9) (h : post 0) : wpX_rank post () y0 := by
  subst e0
  unfold wpX_rank
  refine br_f (by decide +kernel) ?_
  refine br_f (by decide +kernel) ?_
  refine br_f (by decide +kernel) ?_
  refine br_t (by decide +kernel) ?_
  exact h
theorem qc_181 {t : Nat} {va : Nat → Int32} {post : St2 → Prop} {y0 : Int32} (e0 : y0 = 1) (h : post (30, 23, 0, 0, 1, 1, 2, 2, 1, 0, 13, 0, 0, 0, 0, (qa_1_30 t), qa_2_10, qa_8_32, qa_4_10, qa_8_30, qa_8_33, qa_7_6, qa_8_31, qa_9_13, (qa_10_13 t), (fun _ => 0), (fun _ => 0), va)) : wpX_reduceTo post (30, 23, 0, 0, 1, 1, 2, 2, 1, 0, 13, 0, 0, 0, 0, (qa_1_30 t), qa_2_10, qa_8_32, qa_4_10, qa_8_30, qa_8_33, qa_7_6, qa_8_31, qa_9_13, (qa_10_13 t), (fun _ => 0), (fun _ => 0), va) y0 := by
  subst e0
  unfold wpX_reduceTo
  dsimp only
  refine Exists.intro 1 ?_
  refine br_f (by decide +kernel) ?_
  refine br_f (by decide +kernel) ?_
  refine qh_in (by decide +kernel) ?_
  refine qc_180 (by decide +kernel) ?_
  refine br_t (by decide +kernel) ?_
  exact h
def qa_7_7 : Nat → Int32 := upd qa_7_6 2 4
theorem qc_182 {t : Nat} {va : Nat → Int32} {post : St2 → Prop} {y0 : Int32} (e0 : y0 = 4) (h : post (30, 23, 0, 0, 1, 1, 3, 2, 1, 0, 13, 0, 0, 0, 0, (qa_1_30 t), qa_2_10, qa_8_32, qa_4_10, qa_8_30, qa_8_33, qa_7_7, qa_8_31, qa_9_13, (qa_10_13 t), (fun _ => 0), (fun _ => 0), va)) : wpX_pushWait post (30, 23, 0, 0, 1, 1, 2, 2, 1, 0, 13, 0, 0, 0, 0, (qa_1_30 t), qa_2_10, qa_8_32, qa_4_10, qa_8_30, qa_8_33, qa_7_6, qa_8_31, qa_9_13, (qa_10_13 t), (fun _ => 0), (fun _ => 0), va) y0 := by
  subst e0
  unfold wpX_pushWait
  dsimp only
  refine br_t (by decide +kernel) ?_
  refine qh_in (by decide +kernel) ?_
  refine nm_r (e' := qa_7_7) (qh_up (by decide +kernel) (by decide +kernel)) ?_
  refine nm_r (e' := (3 : Int32)) (by decide +kernel) ?_
  refine br_f (by decide +kernel) ?_
  refine br_f (by decide +kernel) ?_
  exact h
theorem qc_183 {t : Nat} {va : Nat → Int32} {post : Int32 → St2 → Prop} (h : post 1 (30, 24, 0, 0, 1, 1, 3, 2, 1, 0, 13, 0, 0, 0, 0, (qa_1_30 t), qa_2_10, qa_8_32, qa_4_10, qa_8_30, qa_8_33, qa_7_7, qa_8_31, qa_9_13, (qa_10_13 t), (fun _ => 0), (fun _ => 0), va)) : wpX_readOperator post (30, 23, 0, 0, 1, 1, 2, 2, 1, 0, 13, 0, 0, 0, 0, (qa_1_30 t), qa_2_10, qa_8_32, qa_4_10, qa_8_30, qa_8_33, qa_7_6, qa_8_31, qa_9_13, (qa_10_13 t), (fun _ => 0), (fun _ => 0), va) := by
  unfold wpX_readOperator
  dsimp only
  refine qh_peek (k := 23) (q := 45) (by decide +kernel) (by decide +kernel) (by decide +kernel) qs_23 (by decide +kernel) (by omega) ?_
  refine qc_178 (by decide +kernel) ?_
  refine br_f (by decide +kernel) ?_
  refine qc_179 (by decide +kernel) ?_
  refine qc_181 (by decide +kernel) ?_
  dsimp only
  refine qc_182 (by decide +kernel) ?_
  dsimp only
  refine nm_r (e' := (24 : Int32)) (by decide +kernel) ?_
  exact h
def qa_2_11 : Nat → Int32 := upd qa_2_10 1 2
def qa_8_34 : Nat → Int32 := upd qa_8_32 1 1
def qa_4_11 : Nat → Int32 := upd qa_4_10 1 (-1)
theorem qc_184 {t : Nat} {va : Nat → Int32} {post : Int32 → St2 → Prop} {y0 y1 y2 : Int32} (e0 : y0 = 2) (e1 : y1 = 1) (e2 : y2 = (-1)) (h : post 1 (30, 24, 0, 0, 2, 1, 3, 2, 1, 0, 13, 0, 0, 0, 0, (qa_1_30 t), qa_2_11, qa_8_34, qa_4_11, qa_8_30, qa_8_33, qa_7_7, qa_8_31, qa_9_13, (qa_10_13 t), (fun _ => 0), (fun _ => 0), va)) : wpX_newNode post (30, 24, 0, 0, 1, 1, 3, 2, 1, 0, 13, 0, 0, 0, 0, (qa_1_30 t), qa_2_10, qa_8_32, qa_4_10, qa_8_30, qa_8_33, qa_7_7, qa_8_31, qa_9_13, (qa_10_13 t), (fun _ => 0), (fun _ => 0), va) y0 y1 y2 := by
  subst e0 e1 e2
  unfold wpX_newNode
  dsimp only
  refine br_f (by decide +kernel) ?_
  refine qh_in (by decide +kernel) ?_
  refine nm_r (e' := qa_2_11) (qh_up (by decide +kernel) (by decide +kernel)) ?_
  refine qh_in (by decide +kernel) ?_
  refine nm_r (e' := qa_8_34) (qh_up (by decide +kernel) (by decide +kernel)) ?_
  refine qh_in (by decide +kernel) ?_
  refine nm_r (e' := qa_4_11) (qh_up (by decide +kernel) (by decide +kernel)) ?_
  refine nm_r (e' := (2 : Int32)) (by decide +kernel) ?_
  exact h
def qa_8_35 : Nat → Int32 := upd qa_8_33 1 1
theorem qc_185 {t : Nat} {va : Nat → Int32} {post : St2 → Prop} {y0 : Int32} (e0 : y0 = 1) (h : post (30, 24, 0, 0, 2, 2, 3, 2, 1, 0, 13, 0, 0, 0, 0, (qa_1_30 t), qa_2_11, qa_8_34, qa_4_11, qa_8_30, qa_8_35, qa_7_7, qa_8_31, qa_9_13, (qa_10_13 t), (fun _ => 0), (fun _ => 0), va)) : wpX_pushTree post (30, 24, 0, 0, 2, 1, 3, 2, 1, 0, 13, 0, 0, 0, 0, (qa_1_30 t), qa_2_11, qa_8_34, qa_4_11, qa_8_30, qa_8_33, qa_7_7, qa_8_31, qa_9_13, (qa_10_13 t), (fun _ => 0), (fun _ => 0), va) y0 := by
  subst e0
  unfold wpX_pushTree
  dsimp only
  refine br_t (by decide +kernel) ?_
  refine qh_in (by decide +kernel) ?_
  refine nm_r (e' := qa_8_35) (qh_up (by decide +kernel) (by decide +kernel)) ?_
  refine nm_r (e' := (2 : Int32)) (by decide +kernel) ?_
  exact h
theorem qc_186 {t : Nat} {va : Nat → Int32} {post : St2 → Prop} (h : post (30, 25, 0, 0, 2, 2, 3, 2, 1, 0, 13, 0, 0, 0, 0, (qa_1_30 t), qa_2_11, qa_8_34, qa_4_11, qa_8_30, qa_8_35, qa_7_7, qa_8_31, qa_9_13, (qa_10_13 t), (fun _ => 0), (fun _ => 0), va)) : wpX_factorDone post (30, 25, 0, 0, 2, 2, 3, 2, 1, 0, 13, 0, 0, 0, 0, (qa_1_30 t), qa_2_11, qa_8_34, qa_4_11, qa_8_30, qa_8_35, qa_7_7, qa_8_31, qa_9_13, (qa_10_13 t), (fun _ => 0), (fun _ => 0), va) := by
  unfold wpX_factorDone
  dsimp only
  refine Exists.intro 1 ?_
  refine br_f (by decide +kernel) ?_
  refine br_f (by decide +kernel) ?_
  refine qh_in (by decide +kernel) ?_
  refine br_f (by decide +kernel) ?_
  exact h
theorem qc_187 {t : Nat} {va : Nat → Int32} {post : Int32 → St2 → Prop} (h : post 1 (30, 25, 0, 0, 2, 2, 3, 2, 1, 0, 13, 0, 0, 0, 0, (qa_1_30 t), qa_2_11, qa_8_34, qa_4_11, qa_8_30, qa_8_35, qa_7_7, qa_8_31, qa_9_13, (qa_10_13 t), (fun _ => 0), (fun _ => 0), va)) : wpX_readOperand post (30, 24, 0, 0, 1, 1, 3, 2, 1, 0, 13, 0, 0, 0, 0, (qa_1_30 t), qa_2_10, qa_8_32, qa_4_10, qa_8_30, qa_8_33, qa_7_7, qa_8_31, qa_9_13, (qa_10_13 t), (fun _ => 0), (fun _ => 0), va) := by
  unfold wpX_readOperand
  dsimp only
  refine qh_peek (k := 24) (q := 98) (by decide +kernel) (by decide +kernel) (by decide +kernel) qs_24 (by decide +kernel) (by omega) ?_
  refine qc_23 (by decide +kernel) ?_
  refine br_t (by decide +kernel) ?_
  refine qc_24 (by decide +kernel) ?_
  refine br_f (by decide +kernel) ?_
  refine qc_184 (by decide +kernel) (by decide +kernel) (by decide +kernel) ?_
  dsimp only
  refine qc_185 (by decide +kernel) ?_
  dsimp only
  refine nm_r (e' := (25 : Int32)) (by decide +kernel) ?_
  refine qc_186 ?_
  dsimp only
  exact h
theorem qc_188 {post : Int32 → Prop} {y0 : Int32} (e0 : y0 = 41) (h : post 0) : wpX_binary post () y0 := by
  subst e0
  unfold wpX_binary
  refine br_f (by decide +kernel) ?_
  refine br_f (by decide +kernel) ?_
  refine br_f (by decide +kernel) ?_
  refine br_f (by decide +kernel) ?_
  refine br_f (by decide +kernel) ?_
  exact h
def qa_2_12 : Nat → Int32 := upd qa_2_11 2 4
def qa_8_36 : Nat → Int32 := upd qa_8_34 2 0
def qa_4_12 : Nat → Int32 := upd qa_4_11 2 1
theorem qc_189 {t : Nat} {va : Nat → Int32} {post : Int32 → St2 → Prop} {y0 y1 y2 : Int32} (e0 : y0 = 4) (e1 : y1 = 0) (e2 : y2 = 1) (h : post 2 (30, 25, 0, 0, 3, 2, 2, 2, 1, 0, 13, 0, 0, 0, 0, (qa_1_30 t), qa_2_12, qa_8_36, qa_4_12, qa_8_30, qa_8_35, qa_7_7, qa_8_31, qa_9_13, (qa_10_13 t), (fun _ => 0), (fun _ => 0), va)) : wpX_newNode post (30, 25, 0, 0, 2, 2, 2, 2, 1, 0, 13, 0, 0, 0, 0, (qa_1_30 t), qa_2_11, qa_8_34, qa_4_11, qa_8_30, qa_8_35, qa_7_7, qa_8_31, qa_9_13, (qa_10_13 t), (fun _ => 0), (fun _ => 0), va) y0 y1 y2 := by
  subst e0 e1 e2
  unfold wpX_newNode
  dsimp only
  refine br_f (by decide +kernel) ?_
  refine qh_in (by decide +kernel) ?_
  refine nm_r (e' := qa_2_12) (qh_up (by decide +kernel) (by decide +kernel)) ?_
  refine qh_in (by decide +kernel) ?_
  refine nm_r (e' := qa_8_36) (qh_up (by decide +kernel) (by decide +kernel)) ?_
  refine qh_in (by decide +kernel) ?_
  refine nm_r (e' := qa_4_12) (qh_up (by decide +kernel) (by decide +kernel)) ?_
  refine nm_r (e' := (3 : Int32)) (by decide +kernel) ?_
  exact h
def qa_8_37 : Nat → Int32 := upd qa_8_35 0 2
theorem qc_190 {t : Nat} {va : Nat → Int32} {post : St2 → Prop} (h : post (30, 25, 0, 0, 3, 1, 2, 2, 1, 0, 13, 0, 0, 0, 0, (qa_1_30 t), qa_2_12, qa_8_36, qa_4_12, qa_8_30, qa_8_37, qa_7_7, qa_8_31, qa_9_13, (qa_10_13 t), (fun _ => 0), (fun _ => 0), va)) : wpX_reduce post (30, 25, 0, 0, 2, 2, 3, 2, 1, 0, 13, 0, 0, 0, 0, (qa_1_30 t), qa_2_11, qa_8_34, qa_4_11, qa_8_30, qa_8_35, qa_7_7, qa_8_31, qa_9_13, (qa_10_13 t), (fun _ => 0), (fun _ => 0), va) := by
  unfold wpX_reduce
  dsimp only
  refine nm_r (e' := (2 : Int32)) (by decide +kernel) ?_
  refine qh_in (by decide +kernel) ?_
  refine nm_r (e' := (4 : Int32)) (by decide +kernel) ?_
  refine br_f (by decide +kernel) ?_
  refine qh_in (by decide +kernel) ?_
  refine qh_in (by decide +kernel) ?_
  refine qc_189 (by decide +kernel) (by decide +kernel) (by decide +kernel) ?_
  dsimp only
  refine nm_r (e' := (1 : Int32)) (by decide +kernel) ?_
  refine qh_in (by decide +kernel) ?_
  refine nm_r (e' := qa_8_37) (qh_up (by decide +kernel) (by decide +kernel)) ?_
  exact h
theorem qc_191 {t : Nat} {va : Nat → Int32} {post : St2 → Prop} {y0 : Int32} (e0 : y0 = 1) (h : post (30, 25, 0, 0, 3, 1, 2, 2, 1, 0, 13, 0, 0, 0, 0, (qa_1_30 t), qa_2_12, qa_8_36, qa_4_12, qa_8_30, qa_8_37, qa_7_7, qa_8_31, qa_9_13, (qa_10_13 t), (fun _ => 0), (fun _ => 0), va)) : wpX_reduceTo post (30, 25, 0, 0, 2, 2, 3, 2, 1, 0, 13, 0, 0, 0, 0, (qa_1_30 t), qa_2_11, qa_8_34, qa_4_11, qa_8_30, qa_8_35, qa_7_7, qa_8_31, qa_9_13, (qa_10_13 t), (fun _ => 0), (fun _ => 0), va) y0 := by
  subst e0
  unfold wpX_reduceTo
  dsimp only
  refine Exists.intro 2 ?_
  refine br_f (by decide +kernel) ?_
  refine br_f (by decide +kernel) ?_
  refine qh_in (by decide +kernel) ?_
  refine qc_179 (by decide +kernel) ?_
  refine br_f (by decide +kernel) ?_
  refine qc_190 ?_
  dsimp only
  refine nm_r (e' := (1 : Int32)) (by decide +kernel) ?_
  refine br_f (by decide +kernel) ?_
  refine br_f (by decide +kernel) ?_
  refine qh_in (by decide +kernel) ?_
  refine qc_180 (by decide +kernel) ?_
  refine br_t (by decide +kernel) ?_
  exact h
def qa_2_13 : Nat → Int32 := upd qa_2_12 3 8
def qa_8_38 : Nat → Int32 := upd qa_8_36 3 2
def qa_4_13 : Nat → Int32 := upd qa_4_12 3 (-1)
theorem qc_192 {t : Nat} {va : Nat → Int32} {post : Int32 → St2 → Prop} {y0 y1 y2 : Int32} (e0 : y0 = 8) (e1 : y1 = 2) (e2 : y2 = (-1)) (h : post 3 (30, 26, 0, 0, 4, 1, 0, 0, 1, 0, 13, 0, 0, 0, 0, (qa_1_30 t), qa_2_13, qa_8_38, qa_4_13, qa_8_30, qa_8_37, qa_7_7, qa_8_31, qa_9_13, (qa_10_13 t), (fun _ => 0), (fun _ => 0), va)) : wpX_newNode post (30, 26, 0, 0, 3, 1, 0, 0, 1, 0, 13, 0, 0, 0, 0, (qa_1_30 t), qa_2_12, qa_8_36, qa_4_12, qa_8_30, qa_8_37, qa_7_7, qa_8_31, qa_9_13, (qa_10_13 t), (fun _ => 0), (fun _ => 0), va) y0 y1 y2 := by
  subst e0 e1 e2
  unfold wpX_newNode
  dsimp only
  refine br_f (by decide +kernel) ?_
  refine qh_in (by decide +kernel) ?_
  refine nm_r (e' := qa_2_13) (qh_up (by decide +kernel) (by decide +kernel)) ?_
  refine qh_in (by decide +kernel) ?_
  refine nm_r (e' := qa_8_38) (qh_up (by decide +kernel) (by decide +kernel)) ?_
  refine qh_in (by decide +kernel) ?_
  refine nm_r (e' := qa_4_13) (qh_up (by decide +kernel) (by decide +kernel)) ?_
  refine nm_r (e' := (4 : Int32)) (by decide +kernel) ?_
  exact h
def qa_8_39 : Nat → Int32 := upd qa_8_37 0 3
theorem qc_193 {t : Nat} {va : Nat → Int32} {post : St2 → Prop} (h : post (30, 26, 0, 0, 4, 1, 0, 0, 1, 0, 13, 0, 0, 0, 0, (qa_1_30 t), qa_2_13, qa_8_38, qa_4_13, qa_8_30, qa_8_39, qa_7_7, qa_8_31, qa_9_13, (qa_10_13 t), (fun _ => 0), (fun _ => 0), va)) : wpX_reduce post (30, 26, 0, 0, 3, 1, 1, 1, 1, 0, 13, 0, 0, 0, 0, (qa_1_30 t), qa_2_12, qa_8_36, qa_4_12, qa_8_30, qa_8_37, qa_7_7, qa_8_31, qa_9_13, (qa_10_13 t), (fun _ => 0), (fun _ => 0), va) := by
  unfold wpX_reduce
  dsimp only
  refine nm_r (e' := (0 : Int32)) (by decide +kernel) ?_
  refine qh_in (by decide +kernel) ?_
  refine nm_r (e' := (8 : Int32)) (by decide +kernel) ?_
  refine br_t (by decide +kernel) ?_
  refine nm_r (e' := (0 : Int32)) (by decide +kernel) ?_
  refine qh_in (by decide +kernel) ?_
  refine qc_192 (by decide +kernel) (by decide +kernel) (by decide +kernel) ?_
  dsimp only
  refine qh_in (by decide +kernel) ?_
  refine nm_r (e' := qa_8_39) (qh_up (by decide +kernel) (by decide +kernel)) ?_
  exact h
theorem qc_194 {t : Nat} {va : Nat → Int32} {post : St2 → Prop} (h : post (30, 26, 0, 0, 4, 1, 0, 0, 1, 0, 13, 0, 0, 0, 0, (qa_1_30 t), qa_2_13, qa_8_38, qa_4_13, qa_8_30, qa_8_39, qa_7_7, qa_8_31, qa_9_13, (qa_10_13 t), (fun _ => 0), (fun _ => 0), va)) : wpX_factorDone post (30, 26, 0, 0, 3, 1, 1, 1, 1, 0, 13, 0, 0, 0, 0, (qa_1_30 t), qa_2_12, qa_8_36, qa_4_12, qa_8_30, qa_8_37, qa_7_7, qa_8_31, qa_9_13, (qa_10_13 t), (fun _ => 0), (fun _ => 0), va) := by
  unfold wpX_factorDone
  dsimp only
  refine Exists.intro 2 ?_
  refine br_f (by decide +kernel) ?_
  refine br_f (by decide +kernel) ?_
  refine qh_in (by decide +kernel) ?_
  refine br_t (by decide +kernel) ?_
  refine qc_193 ?_
  dsimp only
  refine nm_r (e' := (1 : Int32)) (by decide +kernel) ?_
  refine br_f (by decide +kernel) ?_
  refine br_t (by decide +kernel) ?_
  exact h
theorem qc_195 {t : Nat} {va : Nat → Int32} {post : Int32 → St2 → Prop} (h : post 0 (30, 26, 0, 0, 4, 1, 0, 0, 1, 0, 13, 0, 0, 0, 0, (qa_1_30 t), qa_2_13, qa_8_38, qa_4_13, qa_8_30, qa_8_39, qa_7_7, qa_8_31, qa_9_13, (qa_10_13 t), (fun _ => 0), (fun _ => 0), va)) : wpX_readOperator post (30, 25, 0, 0, 2, 2, 3, 2, 1, 0, 13, 0, 0, 0, 0, (qa_1_30 t), qa_2_11, qa_8_34, qa_4_11, qa_8_30, qa_8_35, qa_7_7, qa_8_31, qa_9_13, (qa_10_13 t), (fun _ => 0), (fun _ => 0), va) := by
  unfold wpX_readOperator
  dsimp only
  refine qh_peek (k := 25) (q := 41) (by decide +kernel) (by decide +kernel) (by decide +kernel) qs_25 (by decide +kernel) (by omega) ?_
  refine qc_188 (by decide +kernel) ?_
  refine br_t (by decide +kernel) ?_
  refine br_t (by decide +kernel) ?_
  refine qc_191 (by decide +kernel) ?_
  dsimp only
  refine br_f (by decide +kernel) ?_
  refine nm_r (e' := (1 : Int32)) (by decide +kernel) ?_
  refine nm_r (e' := (1 : Int32)) (by decide +kernel) ?_
  refine nm_r (e' := (26 : Int32)) (by decide +kernel) ?_
  refine qc_194 ?_
  dsimp only
  exact h
theorem qc_196 {post : Int32 → Prop} {y0 : Int32} (e0 : y0 = 38) (h : post 7) : wpX_binary post () y0 := by
  subst e0
  unfold wpX_binary
  refine br_t (by decide +kernel) ?_
  exact h
theorem qc_197 {post : Int32 → Prop} {y0 : Int32} (e0 : y0 = 7) (h : post 2) : wpX_rank post () y0 := by
  subst e0
  unfold wpX_rank
  refine br_f (by decide +kernel) ?_
  refine br_f (by decide +kernel) ?_
  refine br_f (by decide +kernel) ?_
  refine br_f (by decide +kernel) ?_
  exact h
theorem qc_198 {t : Nat} {va : Nat → Int32} {post : St2 → Prop} {y0 : Int32} (e0 : y0 = 2) (h : post (30, 26, 0, 0, 4, 1, 0, 0, 1, 0, 13, 0, 0, 0, 0, (qa_1_30 t), qa_2_13, qa_8_38, qa_4_13, qa_8_30, qa_8_39, qa_7_7, qa_8_31, qa_9_13, (qa_10_13 t), (fun _ => 0), (fun _ => 0), va)) : wpX_reduceTo post (30, 26, 0, 0, 4, 1, 0, 0, 1, 0, 13, 0, 0, 0, 0, (qa_1_30 t), qa_2_13, qa_8_38, qa_4_13, qa_8_30, qa_8_39, qa_7_7, qa_8_31, qa_9_13, (qa_10_13 t), (fun _ => 0), (fun _ => 0), va) y0 := by
  subst e0
  unfold wpX_reduceTo
  dsimp only
  refine Exists.intro 1 ?_
  refine br_f (by decide +kernel) ?_
  refine br_t (by decide +kernel) ?_
  exact h
def qa_7_8 : Nat → Int32 := upd qa_7_7 0 7
theorem qc_199 {t : Nat} {va : Nat → Int32} {post : St2 → Prop} {y0 : Int32} (e0 : y0 = 7) (h : post (30, 26, 0, 0, 4, 1, 1, 0, 1, 0, 13, 0, 0, 0, 0, (qa_1_30 t), qa_2_13, qa_8_38, qa_4_13, qa_8_30, qa_8_39, qa_7_8, qa_8_31, qa_9_13, (qa_10_13 t), (fun _ => 0), (fun _ => 0), va)) : wpX_pushWait post (30, 26, 0, 0, 4, 1, 0, 0, 1, 0, 13, 0, 0, 0, 0, (qa_1_30 t), qa_2_13, qa_8_38, qa_4_13, qa_8_30, qa_8_39, qa_7_7, qa_8_31, qa_9_13, (qa_10_13 t), (fun _ => 0), (fun _ => 0), va) y0 := by
  subst e0
  unfold wpX_pushWait
  dsimp only
  refine br_t (by decide +kernel) ?_
  refine qh_in (by decide +kernel) ?_
  refine nm_r (e' := qa_7_8) (qh_up (by decide +kernel) (by decide +kernel)) ?_
  refine nm_r (e' := (1 : Int32)) (by decide +kernel) ?_
  refine br_f (by decide +kernel) ?_
  refine br_f (by decide +kernel) ?_
  exact h
theorem qc_200 {t : Nat} {va : Nat → Int32} {post : Int32 → St2 → Prop} (h : post 1 (30, 27, 0, 0, 4, 1, 1, 0, 1, 0, 13, 0, 0, 0, 0, (qa_1_30 t), qa_2_13, qa_8_38, qa_4_13, qa_8_30, qa_8_39, qa_7_8, qa_8_31, qa_9_13, (qa_10_13 t), (fun _ => 0), (fun _ => 0), va)) : wpX_readOperator post (30, 26, 0, 0, 4, 1, 0, 0, 1, 0, 13, 0, 0, 0, 0, (qa_1_30 t), qa_2_13, qa_8_38, qa_4_13, qa_8_30, qa_8_39, qa_7_7, qa_8_31, qa_9_13, (qa_10_13 t), (fun _ => 0), (fun _ => 0), va) := by
  unfold wpX_readOperator
  dsimp only
  refine qh_peek (k := 26) (q := 38) (by decide +kernel) (by decide +kernel) (by decide +kernel) qs_26 (by decide +kernel) (by omega) ?_
  refine qc_196 (by decide +kernel) ?_
  refine br_f (by decide +kernel) ?_
  refine qc_197 (by decide +kernel) ?_
  refine qc_198 (by decide +kernel) ?_
  dsimp only
  refine qc_199 (by decide +kernel) ?_
  dsimp only
  refine nm_r (e' := (27 : Int32)) (by decide +kernel) ?_
  exact h
def qa_2_14 : Nat → Int32 := upd qa_2_13 4 2
def qa_8_40 : Nat → Int32 := upd qa_8_38 4 0
def qa_4_14 : Nat → Int32 := upd qa_4_13 4 (-1)
theorem qc_201 {t : Nat} {va : Nat → Int32} {post : Int32 → St2 → Prop} {y0 y1 y2 : Int32} (e0 : y0 = 2) (e1 : y1 = 0) (e2 : y2 = (-1)) (h : post 4 (30, 27, 0, 0, 5, 1, 1, 0, 1, 0, 13, 0, 0, 0, 0, (qa_1_30 t), qa_2_14, qa_8_40, qa_4_14, qa_8_30, qa_8_39, qa_7_8, qa_8_31, qa_9_13, (qa_10_13 t), (fun _ => 0), (fun _ => 0), va)) : wpX_newNode post (30, 27, 0, 0, 4, 1, 1, 0, 1, 0, 13, 0, 0, 0, 0, (qa_1_30 t), qa_2_13, qa_8_38, qa_4_13, qa_8_30, qa_8_39, qa_7_8, qa_8_31, qa_9_13, (qa_10_13 t), (fun _ => 0), (fun _ => 0), va) y0 y1 y2 := by
  subst e0 e1 e2
  unfold wpX_newNode
  dsimp only
  refine br_f (by decide +kernel) ?_
  refine qh_in (by decide +kernel) ?_
  refine nm_r (e' := qa_2_14) (qh_up (by decide +kernel) (by decide +kernel)) ?_
  refine qh_in (by decide +kernel) ?_
  refine nm_r (e' := qa_8_40) (qh_up (by decide +kernel) (by decide +kernel)) ?_
  refine qh_in (by decide +kernel) ?_
  refine nm_r (e' := qa_4_14) (qh_up (by decide +kernel) (by decide +kernel)) ?_
  refine nm_r (e' := (5 : Int32)) (by decide +kernel) ?_
  exact h
def qa_8_41 : Nat → Int32 := upd qa_8_39 1 4
theorem qc_202 {t : Nat} {va : Nat → Int32} {post : St2 → Prop} {y0 : Int32} (e0 : y0 = 4) (h : post (30, 27, 0, 0, 5, 2, 1, 0, 1, 0, 13, 0, 0, 0, 0, (qa_1_30 t), qa_2_14, qa_8_40, qa_4_14, qa_8_30, qa_8_41, qa_7_8, qa_8_31, qa_9_13, (qa_10_13 t), (fun _ => 0), (fun _ => 0), va)) : wpX_pushTree post (30, 27, 0, 0, 5, 1, 1, 0, 1, 0, 13, 0, 0, 0, 0, (qa_1_30 t), qa_2_14, qa_8_40, qa_4_14, qa_8_30, qa_8_39, qa_7_8, qa_8_31, qa_9_13, (qa_10_13 t), (fun _ => 0), (fun _ => 0), va) y0 := by
  subst e0
  unfold wpX_pushTree
  dsimp only
  refine br_t (by decide +kernel) ?_
  refine qh_in (by decide +kernel) ?_
  refine nm_r (e' := qa_8_41) (qh_up (by decide +kernel) (by decide +kernel)) ?_
  refine nm_r (e' := (2 : Int32)) (by decide +kernel) ?_
  exact h
theorem qc_203 {t : Nat} {va : Nat → Int32} {post : St2 → Prop} (h : post (30, 28, 0, 0, 5, 2, 1, 0, 1, 0, 13, 0, 0, 0, 0, (qa_1_30 t), qa_2_14, qa_8_40, qa_4_14, qa_8_30, qa_8_41, qa_7_8, qa_8_31, qa_9_13, (qa_10_13 t), (fun _ => 0), (fun _ => 0), va)) : wpX_factorDone post (30, 28, 0, 0, 5, 2, 1, 0, 1, 0, 13, 0, 0, 0, 0, (qa_1_30 t), qa_2_14, qa_8_40, qa_4_14, qa_8_30, qa_8_41, qa_7_8, qa_8_31, qa_9_13, (qa_10_13 t), (fun _ => 0), (fun _ => 0), va) := by
  unfold wpX_factorDone
  dsimp only
  refine Exists.intro 1 ?_
  refine br_f (by decide +kernel) ?_
  refine br_f (by decide +kernel) ?_
  refine qh_in (by decide +kernel) ?_
  refine br_f (by decide +kernel) ?_
  exact h
theorem qc_204 {t : Nat} {va : Nat → Int32} {post : Int32 → St2 → Prop} (h : post 1 (30, 28, 0, 0, 5, 2, 1, 0, 1, 0, 13, 0, 0, 0, 0, (qa_1_30 t), qa_2_14, qa_8_40, qa_4_14, qa_8_30, qa_8_41, qa_7_8, qa_8_31, qa_9_13, (qa_10_13 t), (fun _ => 0), (fun _ => 0), va)) : wpX_readOperand post (30, 27, 0, 0, 4, 1, 1, 0, 1, 0, 13, 0, 0, 0, 0, (qa_1_30 t), qa_2_13, qa_8_38, qa_4_13, qa_8_30, qa_8_39, qa_7_8, qa_8_31, qa_9_13, (qa_10_13 t), (fun _ => 0), (fun _ => 0), va) := by
  unfold wpX_readOperand
  dsimp only
  refine qh_peek (k := 27) (q := 97) (by decide +kernel) (by decide +kernel) (by decide +kernel) qs_27 (by decide +kernel) (by omega) ?_
  refine qc_10 (by decide +kernel) ?_
  refine br_t (by decide +kernel) ?_
  refine qc_11 (by decide +kernel) ?_
  refine br_f (by decide +kernel) ?_
  refine qc_201 (by decide +kernel) (by decide +kernel) (by decide +kernel) ?_
  dsimp only
  refine qc_202 (by decide +kernel) ?_
  dsimp only
  refine nm_r (e' := (28 : Int32)) (by decide +kernel) ?_
  refine qc_203 ?_
  dsimp only
  exact h
theorem qc_205 {t : Nat} {va : Nat → Int32} {post : Int32 → St2 → Prop} (h : post (-1) (30, 28, 0, 0, 5, 2, 1, 0, 1, 0, 13, 0, 0, 0, 0, (qa_1_30 t), qa_2_14, qa_8_40, qa_4_14, qa_8_30, qa_8_41, qa_7_8, qa_8_31, qa_9_13, (qa_10_13 t), (fun _ => 0), (fun _ => 0), va)) : wpX_readOperator post (30, 28, 0, 0, 5, 2, 1, 0, 1, 0, 13, 0, 0, 0, 0, (qa_1_30 t), qa_2_14, qa_8_40, qa_4_14, qa_8_30, qa_8_41, qa_7_8, qa_8_31, qa_9_13, (qa_10_13 t), (fun _ => 0), (fun _ => 0), va) := by
  unfold wpX_readOperator
  dsimp only
  refine qh_peek (k := 28) (q := 59) (by decide +kernel) (by decide +kernel) (by decide +kernel) qs_28 (by decide +kernel) (by omega) ?_
  refine qc_115 (by decide +kernel) ?_
  refine br_t (by decide +kernel) ?_
  refine br_f (by decide +kernel) ?_
  exact h
def qa_2_15 : Nat → Int32 := upd qa_2_14 5 7
def qa_8_42 : Nat → Int32 := upd qa_8_40 5 3
def qa_4_15 : Nat → Int32 := upd qa_4_14 5 4
theorem qc_206 {t : Nat} {va : Nat → Int32} {post : Int32 → St2 → Prop} {y0 y1 y2 : Int32} (e0 : y0 = 7) (e1 : y1 = 3) (e2 : y2 = 4) (h : post 5 (30, 28, 0, 0, 6, 2, 0, 0, 1, 0, 13, 0, 0, 0, 0, (qa_1_30 t), qa_2_15, qa_8_42, qa_4_15, qa_8_30, qa_8_41, qa_7_8, qa_8_31, qa_9_13, (qa_10_13 t), (fun _ => 0), (fun _ => 0), va)) : wpX_newNode post (30, 28, 0, 0, 5, 2, 0, 0, 1, 0, 13, 0, 0, 0, 0, (qa_1_30 t), qa_2_14, qa_8_40, qa_4_14, qa_8_30, qa_8_41, qa_7_8, qa_8_31, qa_9_13, (qa_10_13 t), (fun _ => 0), (fun _ => 0), va) y0 y1 y2 := by
  subst e0 e1 e2
  unfold wpX_newNode
  dsimp only
  refine br_f (by decide +kernel) ?_
  refine qh_in (by decide +kernel) ?_
  refine nm_r (e' := qa_2_15) (qh_up (by decide +kernel) (by decide +kernel)) ?_
  refine qh_in (by decide +kernel) ?_
  refine nm_r (e' := qa_8_42) (qh_up (by decide +kernel) (by decide +kernel)) ?_
  refine qh_in (by decide +kernel) ?_
  refine nm_r (e' := qa_4_15) (qh_up (by decide +kernel) (by decide +kernel)) ?_
  refine nm_r (e' := (6 : Int32)) (by decide +kernel) ?_
  exact h
def qa_8_43 : Nat → Int32 := upd qa_8_41 0 5
theorem qc_207 {t : Nat} {va : Nat → Int32} {post : St2 → Prop} (h : post (30, 28, 0, 0, 6, 1, 0, 0, 1, 0, 13, 0, 0, 0, 0, (qa_1_30 t), qa_2_15, qa_8_42, qa_4_15, qa_8_30, qa_8_43, qa_7_8, qa_8_31, qa_9_13, (qa_10_13 t), (fun _ => 0), (fun _ => 0), va)) : wpX_reduce post (30, 28, 0, 0, 5, 2, 1, 0, 1, 0, 13, 0, 0, 0, 0, (qa_1_30 t), qa_2_14, qa_8_40, qa_4_14, qa_8_30, qa_8_41, qa_7_8, qa_8_31, qa_9_13, (qa_10_13 t), (fun _ => 0), (fun _ => 0), va) := by
  unfold wpX_reduce
  dsimp only
  refine nm_r (e' := (0 : Int32)) (by decide +kernel) ?_
  refine qh_in (by decide +kernel) ?_
  refine nm_r (e' := (7 : Int32)) (by decide +kernel) ?_
  refine br_f (by decide +kernel) ?_
  refine qh_in (by decide +kernel) ?_
  refine qh_in (by decide +kernel) ?_
  refine qc_206 (by decide +kernel) (by decide +kernel) (by decide +kernel) ?_
  dsimp only
  refine nm_r (e' := (1 : Int32)) (by decide +kernel) ?_
  refine qh_in (by decide +kernel) ?_
  refine nm_r (e' := qa_8_43) (qh_up (by decide +kernel) (by decide +kernel)) ?_
  exact h
theorem qc_208 {t : Nat} {va : Nat → Int32} {post : St2 → Prop} {y0 : Int32} (e0 : y0 = 1) (h : post (30, 28, 0, 0, 6, 1, 0, 0, 1, 0, 13, 0, 0, 0, 0, (qa_1_30 t), qa_2_15, qa_8_42, qa_4_15, qa_8_30, qa_8_43, qa_7_8, qa_8_31, qa_9_13, (qa_10_13 t), (fun _ => 0), (fun _ => 0), va)) : wpX_reduceTo post (30, 28, 0, 0, 5, 2, 1, 0, 1, 0, 13, 0, 0, 0, 0, (qa_1_30 t), qa_2_14, qa_8_40, qa_4_14, qa_8_30, qa_8_41, qa_7_8, qa_8_31, qa_9_13, (qa_10_13 t), (fun _ => 0), (fun _ => 0), va) y0 := by
  subst e0
  unfold wpX_reduceTo
  dsimp only
  refine Exists.intro 2 ?_
  refine br_f (by decide +kernel) ?_
  refine br_f (by decide +kernel) ?_
  refine qh_in (by decide +kernel) ?_
  refine qc_197 (by decide +kernel) ?_
  refine br_f (by decide +kernel) ?_
  refine qc_207 ?_
  dsimp only
  refine nm_r (e' := (1 : Int32)) (by decide +kernel) ?_
  refine br_f (by decide +kernel) ?_
  refine br_t (by decide +kernel) ?_
  exact h
def qa_8_44 : Nat → Int32 := upd qa_8_30 0 0
def qa_8_45 : Nat → Int32 := upd qa_8_44 1 0
def qa_8_46 : Nat → Int32 := upd qa_8_45 2 0
def qa_8_47 : Nat → Int32 := upd qa_8_46 3 0
def qa_8_48 : Nat → Int32 := upd qa_8_47 4 0
def qa_8_49 : Nat → Int32 := upd qa_8_48 5 0
def qa_8_50 : Nat → Int32 := upd qa_8_49 3 1
def qa_8_51 : Nat → Int32 := upd qa_8_50 4 1
def qa_8_52 : Nat → Int32 := upd qa_8_51 2 2
def qa_8_53 : Nat → Int32 := upd qa_8_52 0 3
def qa_8_54 : Nat → Int32 := upd qa_8_53 1 3
def qa_9_14 : Nat → Int32 := upd qa_9_13 13 2
def qa_10_14 (t : Nat) : Nat → Int32 := upd (qa_10_13 t) 13 2
theorem qc_209 {t : Nat} {va : Nat → Int32} {post : St2 → Prop} {y0 y1 : Int32} (e0 : y0 = 2) (e1 : y1 = 2) (h : post (30, 28, 0, 0, 6, 1, 0, 0, 1, 0, 14, 0, 0, 0, 0, (qa_1_30 t), qa_2_15, qa_8_42, qa_4_15, qa_8_54, qa_8_43, qa_7_8, qa_8_31, qa_9_14, (qa_10_14 t), (fun _ => 0), (fun _ => 0), va)) : wpX_put post (30, 28, 0, 0, 6, 1, 0, 0, 1, 0, 13, 0, 0, 0, 0, (qa_1_30 t), qa_2_15, qa_8_42, qa_4_15, qa_8_54, qa_8_43, qa_7_8, qa_8_31, qa_9_13, (qa_10_13 t), (fun _ => 0), (fun _ => 0), va) y0 y1 := by
  subst e0 e1
  unfold wpX_put
  dsimp only
  refine br_t (by decide +kernel) ?_
  refine qh_in (by decide +kernel) ?_
  refine nm_r (e' := qa_9_14) (qh_up (by decide +kernel) (by decide +kernel)) ?_
  refine qh_in (by decide +kernel) ?_
  refine nm_r (e' := (qa_10_14 t)) (qh_up (by decide +kernel) (by decide +kernel)) ?_
  refine nm_r (e' := (14 : Int32)) (by decide +kernel) ?_
  exact h
def qa_9_15 : Nat → Int32 := upd qa_9_14 14 2
def qa_10_15 (t : Nat) : Nat → Int32 := upd (qa_10_14 t) 14 1
theorem qc_210 {t : Nat} {va : Nat → Int32} {post : St2 → Prop} {y0 y1 : Int32} (e0 : y0 = 2) (e1 : y1 = 1) (h : post (30, 28, 0, 0, 6, 1, 0, 0, 1, 0, 15, 0, 0, 0, 0, (qa_1_30 t), qa_2_15, qa_8_42, qa_4_15, qa_8_54, qa_8_43, qa_7_8, qa_8_31, qa_9_15, (qa_10_15 t), (fun _ => 0), (fun _ => 0), va)) : wpX_put post (30, 28, 0, 0, 6, 1, 0, 0, 1, 0, 14, 0, 0, 0, 0, (qa_1_30 t), qa_2_15, qa_8_42, qa_4_15, qa_8_54, qa_8_43, qa_7_8, qa_8_31, qa_9_14, (qa_10_14 t), (fun _ => 0), (fun _ => 0), va) y0 y1 := by
  subst e0 e1
  unfold wpX_put
  dsimp only
  refine br_t (by decide +kernel) ?_
  refine qh_in (by decide +kernel) ?_
  refine nm_r (e' := qa_9_15) (qh_up (by decide +kernel) (by decide +kernel)) ?_
  refine qh_in (by decide +kernel) ?_
  refine nm_r (e' := (qa_10_15 t)) (qh_up (by decide +kernel) (by decide +kernel)) ?_
  refine nm_r (e' := (15 : Int32)) (by decide +kernel) ?_
  exact h
theorem qc_211 {t : Nat} {va : Nat → Int32} {post : St2 → Prop} {y0 : Int32} (e0 : y0 = 3) (h : post (30, 28, 0, 0, 6, 1, 0, 0, 1, 0, 15, 0, 0, 0, 0, (qa_1_30 t), qa_2_15, qa_8_42, qa_4_15, qa_8_54, qa_8_43, qa_7_8, qa_8_31, qa_9_15, (qa_10_15 t), (fun _ => 0), (fun _ => 0), va)) : wpX_emitLevel post (30, 28, 0, 0, 6, 1, 0, 0, 1, 0, 13, 0, 0, 0, 0, (qa_1_30 t), qa_2_15, qa_8_42, qa_4_15, qa_8_54, qa_8_43, qa_7_8, qa_8_31, qa_9_13, (qa_10_13 t), (fun _ => 0), (fun _ => 0), va) y0 := by
  subst e0
  unfold wpX_emitLevel
  dsimp only
  refine Exists.intro 7 ?_
  refine br_f (by decide +kernel) ?_
  refine qh_in (by decide +kernel) ?_
  refine br_t (by decide +kernel) ?_
  refine qh_in (by decide +kernel) ?_
  refine qh_in (by decide +kernel) ?_
  refine qc_209 (by decide +kernel) (by decide +kernel) ?_
  dsimp only
  refine nm_r (e' := (1 : Int32)) (by decide +kernel) ?_
  refine br_f (by decide +kernel) ?_
  refine qh_in (by decide +kernel) ?_
  refine br_t (by decide +kernel) ?_
  refine qh_in (by decide +kernel) ?_
  refine qh_in (by decide +kernel) ?_
  refine qc_210 (by decide +kernel) (by decide +kernel) ?_
  dsimp only
  refine nm_r (e' := (2 : Int32)) (by decide +kernel) ?_
  refine br_f (by decide +kernel) ?_
  refine qh_in (by decide +kernel) ?_
  refine br_f (by decide +kernel) ?_
  refine nm_r (e' := (3 : Int32)) (by decide +kernel) ?_
  refine br_f (by decide +kernel) ?_
  refine qh_in (by decide +kernel) ?_
  refine br_f (by decide +kernel) ?_
  refine nm_r (e' := (4 : Int32)) (by decide +kernel) ?_
  refine br_f (by decide +kernel) ?_
  refine qh_in (by decide +kernel) ?_
  refine br_f (by decide +kernel) ?_
  refine nm_r (e' := (5 : Int32)) (by decide +kernel) ?_
  refine br_f (by decide +kernel) ?_
  refine qh_in (by decide +kernel) ?_
  refine br_f (by decide +kernel) ?_
  refine nm_r (e' := (6 : Int32)) (by decide +kernel) ?_
  refine br_t (by decide +kernel) ?_
  exact h
def qa_9_16 : Nat → Int32 := upd qa_9_15 15 4
def qa_10_16 (t : Nat) : Nat → Int32 := upd (qa_10_15 t) 15 0
theorem qc_212 {t : Nat} {va : Nat → Int32} {post : St2 → Prop} {y0 y1 : Int32} (e0 : y0 = 4) (e1 : y1 = 0) (h : post (30, 28, 0, 0, 6, 1, 0, 0, 1, 0, 16, 0, 0, 0, 0, (qa_1_30 t), qa_2_15, qa_8_42, qa_4_15, qa_8_54, qa_8_43, qa_7_8, qa_8_31, qa_9_16, (qa_10_16 t), (fun _ => 0), (fun _ => 0), va)) : wpX_put post (30, 28, 0, 0, 6, 1, 0, 0, 1, 0, 15, 0, 0, 0, 0, (qa_1_30 t), qa_2_15, qa_8_42, qa_4_15, qa_8_54, qa_8_43, qa_7_8, qa_8_31, qa_9_15, (qa_10_15 t), (fun _ => 0), (fun _ => 0), va) y0 y1 := by
  subst e0 e1
  unfold wpX_put
  dsimp only
  refine br_t (by decide +kernel) ?_
  refine qh_in (by decide +kernel) ?_
  refine nm_r (e' := qa_9_16) (qh_up (by decide +kernel) (by decide +kernel)) ?_
  refine qh_in (by decide +kernel) ?_
  refine nm_r (e' := (qa_10_16 t)) (qh_up (by decide +kernel) (by decide +kernel)) ?_
  refine nm_r (e' := (16 : Int32)) (by decide +kernel) ?_
  exact h
theorem qc_213 {t : Nat} {va : Nat → Int32} {post : St2 → Prop} {y0 : Int32} (e0 : y0 = 2) (h : post (30, 28, 0, 0, 6, 1, 0, 0, 1, 0, 16, 0, 0, 0, 0, (qa_1_30 t), qa_2_15, qa_8_42, qa_4_15, qa_8_54, qa_8_43, qa_7_8, qa_8_31, qa_9_16, (qa_10_16 t), (fun _ => 0), (fun _ => 0), va)) : wpX_emitLevel post (30, 28, 0, 0, 6, 1, 0, 0, 1, 0, 15, 0, 0, 0, 0, (qa_1_30 t), qa_2_15, qa_8_42, qa_4_15, qa_8_54, qa_8_43, qa_7_8, qa_8_31, qa_9_15, (qa_10_15 t), (fun _ => 0), (fun _ => 0), va) y0 := by
  subst e0
  unfold wpX_emitLevel
  dsimp only
  refine Exists.intro 7 ?_
  refine br_f (by decide +kernel) ?_
  refine qh_in (by decide +kernel) ?_
  refine br_f (by decide +kernel) ?_
  refine nm_r (e' := (1 : Int32)) (by decide +kernel) ?_
  refine br_f (by decide +kernel) ?_
  refine qh_in (by decide +kernel) ?_
  refine br_f (by decide +kernel) ?_
  refine nm_r (e' := (2 : Int32)) (by decide +kernel) ?_
  refine br_f (by decide +kernel) ?_
  refine qh_in (by decide +kernel) ?_
  refine br_t (by decide +kernel) ?_
  refine qh_in (by decide +kernel) ?_
  refine qh_in (by decide +kernel) ?_
  refine qc_212 (by decide +kernel) (by decide +kernel) ?_
  dsimp only
  refine nm_r (e' := (3 : Int32)) (by decide +kernel) ?_
  refine br_f (by decide +kernel) ?_
  refine qh_in (by decide +kernel) ?_
  refine br_f (by decide +kernel) ?_
  refine nm_r (e' := (4 : Int32)) (by decide +kernel) ?_
  refine br_f (by decide +kernel) ?_
  refine qh_in (by decide +kernel) ?_
  refine br_f (by decide +kernel) ?_
  refine nm_r (e' := (5 : Int32)) (by decide +kernel) ?_
  refine br_f (by decide +kernel) ?_
  refine qh_in (by decide +kernel) ?_
  refine br_f (by decide +kernel) ?_
  refine nm_r (e' := (6 : Int32)) (by decide +kernel) ?_
  refine br_t (by decide +kernel) ?_
  exact h
def qa_9_17 : Nat → Int32 := upd qa_9_16 16 8
def qa_10_17 (t : Nat) : Nat → Int32 := upd (qa_10_16 t) 16 2
theorem qc_214 {t : Nat} {va : Nat → Int32} {post : St2 → Prop} {y0 y1 : Int32} (e0 : y0 = 8) (e1 : y1 = 2) (h : post (30, 28, 0, 0, 6, 1, 0, 0, 1, 0, 17, 0, 0, 0, 0, (qa_1_30 t), qa_2_15, qa_8_42, qa_4_15, qa_8_54, qa_8_43, qa_7_8, qa_8_31, qa_9_17, (qa_10_17 t), (fun _ => 0), (fun _ => 0), va)) : wpX_put post (30, 28, 0, 0, 6, 1, 0, 0, 1, 0, 16, 0, 0, 0, 0, (qa_1_30 t), qa_2_15, qa_8_42, qa_4_15, qa_8_54, qa_8_43, qa_7_8, qa_8_31, qa_9_16, (qa_10_16 t), (fun _ => 0), (fun _ => 0), va) y0 y1 := by
  subst e0 e1
  unfold wpX_put
  dsimp only
  refine br_t (by decide +kernel) ?_
  refine qh_in (by decide +kernel) ?_
  refine nm_r (e' := qa_9_17) (qh_up (by decide +kernel) (by decide +kernel)) ?_
  refine qh_in (by decide +kernel) ?_
  refine nm_r (e' := (qa_10_17 t)) (qh_up (by decide +kernel) (by decide +kernel)) ?_
  refine nm_r (e' := (17 : Int32)) (by decide +kernel) ?_
  exact h
def qa_9_18 : Nat → Int32 := upd qa_9_17 17 2
def qa_10_18 (t : Nat) : Nat → Int32 := upd (qa_10_17 t) 17 0
theorem qc_215 {t : Nat} {va : Nat → Int32} {post : St2 → Prop} {y0 y1 : Int32} (e0 : y0 = 2) (e1 : y1 = 0) (h : post (30, 28, 0, 0, 6, 1, 0, 0, 1, 0, 18, 0, 0, 0, 0, (qa_1_30 t), qa_2_15, qa_8_42, qa_4_15, qa_8_54, qa_8_43, qa_7_8, qa_8_31, qa_9_18, (qa_10_18 t), (fun _ => 0), (fun _ => 0), va)) : wpX_put post (30, 28, 0, 0, 6, 1, 0, 0, 1, 0, 17, 0, 0, 0, 0, (qa_1_30 t), qa_2_15, qa_8_42, qa_4_15, qa_8_54, qa_8_43, qa_7_8, qa_8_31, qa_9_17, (qa_10_17 t), (fun _ => 0), (fun _ => 0), va) y0 y1 := by
  subst e0 e1
  unfold wpX_put
  dsimp only
  refine br_t (by decide +kernel) ?_
  refine qh_in (by decide +kernel) ?_
  refine nm_r (e' := qa_9_18) (qh_up (by decide +kernel) (by decide +kernel)) ?_
  refine qh_in (by decide +kernel) ?_
  refine nm_r (e' := (qa_10_18 t)) (qh_up (by decide +kernel) (by decide +kernel)) ?_
  refine nm_r (e' := (18 : Int32)) (by decide +kernel) ?_
  exact h
theorem qc_216 {t : Nat} {va : Nat → Int32} {post : St2 → Prop} {y0 : Int32} (e0 : y0 = 1) (h : post (30, 28, 0, 0, 6, 1, 0, 0, 1, 0, 18, 0, 0, 0, 0, (qa_1_30 t), qa_2_15, qa_8_42, qa_4_15, qa_8_54, qa_8_43, qa_7_8, qa_8_31, qa_9_18, (qa_10_18 t), (fun _ => 0), (fun _ => 0), va)) : wpX_emitLevel post (30, 28, 0, 0, 6, 1, 0, 0, 1, 0, 16, 0, 0, 0, 0, (qa_1_30 t), qa_2_15, qa_8_42, qa_4_15, qa_8_54, qa_8_43, qa_7_8, qa_8_31, qa_9_16, (qa_10_16 t), (fun _ => 0), (fun _ => 0), va) y0 := by
  subst e0
  unfold wpX_emitLevel
  dsimp only
  refine Exists.intro 7 ?_
  refine br_f (by decide +kernel) ?_
  refine qh_in (by decide +kernel) ?_
  refine br_f (by decide +kernel) ?_
  refine nm_r (e' := (1 : Int32)) (by decide +kernel) ?_
  refine br_f (by decide +kernel) ?_
  refine qh_in (by decide +kernel) ?_
  refine br_f (by decide +kernel) ?_
  refine nm_r (e' := (2 : Int32)) (by decide +kernel) ?_
  refine br_f (by decide +kernel) ?_
  refine qh_in (by decide +kernel) ?_
  refine br_f (by decide +kernel) ?_
  refine nm_r (e' := (3 : Int32)) (by decide +kernel) ?_
  refine br_f (by decide +kernel) ?_
  refine qh_in (by decide +kernel) ?_
  refine br_t (by decide +kernel) ?_
  refine qh_in (by decide +kernel) ?_
  refine qh_in (by decide +kernel) ?_
  refine qc_214 (by decide +kernel) (by decide +kernel) ?_
  dsimp only
  refine nm_r (e' := (4 : Int32)) (by decide +kernel) ?_
  refine br_f (by decide +kernel) ?_
  refine qh_in (by decide +kernel) ?_
  refine br_t (by decide +kernel) ?_
  refine qh_in (by decide +kernel) ?_
  refine qh_in (by decide +kernel) ?_
  refine qc_215 (by decide +kernel) (by decide +kernel) ?_
  dsimp only
  refine nm_r (e' := (5 : Int32)) (by decide +kernel) ?_
  refine br_f (by decide +kernel) ?_
  refine qh_in (by decide +kernel) ?_
  refine br_f (by decide +kernel) ?_
  refine nm_r (e' := (6 : Int32)) (by decide +kernel) ?_
  refine br_t (by decide +kernel) ?_
  exact h
def qa_9_19 : Nat → Int32 := upd qa_9_18 18 7
def qa_10_19 (t : Nat) : Nat → Int32 := upd (qa_10_18 t) 18 3
theorem qc_217 {t : Nat} {va : Nat → Int32} {post : St2 → Prop} {y0 y1 : Int32} (e0 : y0 = 7) (e1 : y1 = 3) (h : post (30, 28, 0, 0, 6, 1, 0, 0, 1, 0, 19, 0, 0, 0, 0, (qa_1_30 t), qa_2_15, qa_8_42, qa_4_15, qa_8_54, qa_8_43, qa_7_8, qa_8_31, qa_9_19, (qa_10_19 t), (fun _ => 0), (fun _ => 0), va)) : wpX_put post (30, 28, 0, 0, 6, 1, 0, 0, 1, 0, 18, 0, 0, 0, 0, (qa_1_30 t), qa_2_15, qa_8_42, qa_4_15, qa_8_54, qa_8_43, qa_7_8, qa_8_31, qa_9_18, (qa_10_18 t), (fun _ => 0), (fun _ => 0), va) y0 y1 := by
  subst e0 e1
  unfold wpX_put
  dsimp only
  refine br_t (by decide +kernel) ?_
  refine qh_in (by decide +kernel) ?_
  refine nm_r (e' := qa_9_19) (qh_up (by decide +kernel) (by decide +kernel)) ?_
  refine qh_in (by decide +kernel) ?_
  refine nm_r (e' := (qa_10_19 t)) (qh_up (by decide +kernel) (by decide +kernel)) ?_
  refine nm_r (e' := (19 : Int32)) (by decide +kernel) ?_
  exact h
theorem qc_218 {t : Nat} {va : Nat → Int32} {post : St2 → Prop} {y0 : Int32} (e0 : y0 = 0) (h : post (30, 28, 0, 0, 6, 1, 0, 0, 1, 0, 19, 0, 0, 0, 0, (qa_1_30 t), qa_2_15, qa_8_42, qa_4_15, qa_8_54, qa_8_43, qa_7_8, qa_8_31, qa_9_19, (qa_10_19 t), (fun _ => 0), (fun _ => 0), va)) : wpX_emitLevel post (30, 28, 0, 0, 6, 1, 0, 0, 1, 0, 18, 0, 0, 0, 0, (qa_1_30 t), qa_2_15, qa_8_42, qa_4_15, qa_8_54, qa_8_43, qa_7_8, qa_8_31, qa_9_18, (qa_10_18 t), (fun _ => 0), (fun _ => 0), va) y0 := by
  subst e0
  unfold wpX_emitLevel
  dsimp only
  refine Exists.intro 7 ?_
  refine br_f (by decide +kernel) ?_
  refine qh_in (by decide +kernel) ?_
  refine br_f (by decide +kernel) ?_
  refine nm_r (e' := (1 : Int32)) (by decide +kernel) ?_
  refine br_f (by decide +kernel) ?_
  refine qh_in (by decide +kernel) ?_
  refine br_f (by decide +kernel) ?_
  refine nm_r (e' := (2 : Int32)) (by decide +kernel) ?_
  refine br_f (by decide +kernel) ?_
  refine qh_in (by decide +kernel) ?_
  refine br_f (by decide +kernel) ?_
  refine nm_r (e' := (3 : Int32)) (by decide +kernel) ?_
  refine br_f (by decide +kernel) ?_
  refine qh_in (by decide +kernel) ?_
  refine br_f (by decide +kernel) ?_
  refine nm_r (e' := (4 : Int32)) (by decide +kernel) ?_
  refine br_f (by decide +kernel) ?_
  refine qh_in (by decide +kernel) ?_
  refine br_f (by decide +kernel) ?_
  refine nm_r (e' := (5 : Int32)) (by decide +kernel) ?_
  refine br_f (by decide +kernel) ?_
  refine qh_in (by decide +kernel) ?_
  refine br_t (by decide +kernel) ?_
  refine qh_in (by decide +kernel) ?_
  refine qh_in (by decide +kernel) ?_
  refine qc_217 (by decide +kernel) (by decide +kernel) ?_
  dsimp only
  refine nm_r (e' := (6 : Int32)) (by decide +kernel) ?_
  refine br_t (by decide +kernel) ?_
  exact h
theorem qc_219 {t : Nat} {va : Nat → Int32} {post : St2 → Prop} {y0 : Int32} (e0 : y0 = 5) (h : post (30, 28, 0, 0, 6, 1, 0, 0, 1, 0, 19, 0, 0, 0, 0, (qa_1_30 t), qa_2_15, qa_8_42, qa_4_15, qa_8_54, qa_8_43, qa_7_8, qa_8_31, qa_9_19, (qa_10_19 t), (fun _ => 0), (fun _ => 0), va)) : wpX_emitTree post (30, 28, 0, 0, 6, 1, 0, 0, 1, 0, 13, 0, 0, 0, 0, (qa_1_30 t), qa_2_15, qa_8_42, qa_4_15, qa_8_30, qa_8_43, qa_7_8, qa_8_31, qa_9_13, (qa_10_13 t), (fun _ => 0), (fun _ => 0), va) y0 := by
  subst e0
  unfold wpX_emitTree
  dsimp only
  refine Exists.intro 7 ?_
  refine br_f (by decide +kernel) ?_
  refine qh_in (by decide +kernel) ?_
  refine nm_r (e' := qa_8_44) (qh_up (by decide +kernel) (by decide +kernel)) ?_
  refine nm_r (e' := (1 : Int32)) (by decide +kernel) ?_
  refine br_f (by decide +kernel) ?_
  refine qh_in (by decide +kernel) ?_
  refine nm_r (e' := qa_8_45) (qh_up (by decide +kernel) (by decide +kernel)) ?_
  refine nm_r (e' := (2 : Int32)) (by decide +kernel) ?_
  refine br_f (by decide +kernel) ?_
  refine qh_in (by decide +kernel) ?_
  refine nm_r (e' := qa_8_46) (qh_up (by decide +kernel) (by decide +kernel)) ?_
  refine nm_r (e' := (3 : Int32)) (by decide +kernel) ?_
  refine br_f (by decide +kernel) ?_
  refine qh_in (by decide +kernel) ?_
  refine nm_r (e' := qa_8_47) (qh_up (by decide +kernel) (by decide +kernel)) ?_
  refine nm_r (e' := (4 : Int32)) (by decide +kernel) ?_
  refine br_f (by decide +kernel) ?_
  refine qh_in (by decide +kernel) ?_
  refine nm_r (e' := qa_8_48) (qh_up (by decide +kernel) (by decide +kernel)) ?_
  refine nm_r (e' := (5 : Int32)) (by decide +kernel) ?_
  refine br_f (by decide +kernel) ?_
  refine qh_in (by decide +kernel) ?_
  refine nm_r (e' := qa_8_49) (qh_up (by decide +kernel) (by decide +kernel)) ?_
  refine nm_r (e' := (6 : Int32)) (by decide +kernel) ?_
  refine br_t (by decide +kernel) ?_
  refine Exists.intro 7 ?_
  refine br_f (by decide +kernel) ?_
  refine qh_in (by decide +kernel) ?_
  refine br_f (by decide +kernel) ?_
  refine qh_in (by decide +kernel) ?_
  refine qh_in (by decide +kernel) ?_
  refine qh_in (by decide +kernel) ?_
  refine nm_r (e' := qa_8_50) (qh_up (by decide +kernel) (by decide +kernel)) ?_
  refine qh_in (by decide +kernel) ?_
  refine br_f (by decide +kernel) ?_
  refine qh_in (by decide +kernel) ?_
  refine br_f (by decide +kernel) ?_
  refine qh_in (by decide +kernel) ?_
  refine qh_in (by decide +kernel) ?_
  refine qh_in (by decide +kernel) ?_
  refine nm_r (e' := qa_8_51) (qh_up (by decide +kernel) (by decide +kernel)) ?_
  refine qh_in (by decide +kernel) ?_
  refine br_t (by decide +kernel) ?_
  refine nm_r (e' := (4 : Int32)) (by decide +kernel) ?_
  refine br_f (by decide +kernel) ?_
  refine qh_in (by decide +kernel) ?_
  refine br_t (by decide +kernel) ?_
  refine qh_in (by decide +kernel) ?_
  refine br_t (by decide +kernel) ?_
  refine qh_in (by decide +kernel) ?_
  refine br_f (by decide +kernel) ?_
  refine qh_in (by decide +kernel) ?_
  refine nm_r (e' := (1 : Int32)) (by decide +kernel) ?_
  refine nm_r (e' := (3 : Int32)) (by decide +kernel) ?_
  refine br_f (by decide +kernel) ?_
  refine qh_in (by decide +kernel) ?_
  refine br_f (by decide +kernel) ?_
  refine qh_in (by decide +kernel) ?_
  refine qh_in (by decide +kernel) ?_
  refine qh_in (by decide +kernel) ?_
  refine nm_r (e' := qa_8_52) (qh_up (by decide +kernel) (by decide +kernel)) ?_
  refine qh_in (by decide +kernel) ?_
  refine br_f (by decide +kernel) ?_
  refine qh_in (by decide +kernel) ?_
  refine br_t (by decide +kernel) ?_
  refine qh_in (by decide +kernel) ?_
  refine br_t (by decide +kernel) ?_
  refine nm_r (e' := (2 : Int32)) (by decide +kernel) ?_
  refine br_f (by decide +kernel) ?_
  refine qh_in (by decide +kernel) ?_
  refine br_f (by decide +kernel) ?_
  refine qh_in (by decide +kernel) ?_
  refine qh_in (by decide +kernel) ?_
  refine qh_in (by decide +kernel) ?_
  refine nm_r (e' := qa_8_53) (qh_up (by decide +kernel) (by decide +kernel)) ?_
  refine qh_in (by decide +kernel) ?_
  refine br_f (by decide +kernel) ?_
  refine qh_in (by decide +kernel) ?_
  refine br_f (by decide +kernel) ?_
  refine qh_in (by decide +kernel) ?_
  refine qh_in (by decide +kernel) ?_
  refine qh_in (by decide +kernel) ?_
  refine nm_r (e' := qa_8_54) (qh_up (by decide +kernel) (by decide +kernel)) ?_
  refine qh_in (by decide +kernel) ?_
  refine br_f (by decide +kernel) ?_
  refine qh_in (by decide +kernel) ?_
  refine nm_r (e' := (2 : Int32)) (by decide +kernel) ?_
  refine nm_r (e' := (1 : Int32)) (by decide +kernel) ?_
  refine br_f (by decide +kernel) ?_
  refine qh_in (by decide +kernel) ?_
  refine br_t (by decide +kernel) ?_
  refine qh_in (by decide +kernel) ?_
  refine br_t (by decide +kernel) ?_
  refine qh_in (by decide +kernel) ?_
  refine br_f (by decide +kernel) ?_
  refine qh_in (by decide +kernel) ?_
  refine nm_r (e' := (3 : Int32)) (by decide +kernel) ?_
  refine nm_r (e' := (0 : Int32)) (by decide +kernel) ?_
  refine br_f (by decide +kernel) ?_
  refine qh_in (by decide +kernel) ?_
  refine br_t (by decide +kernel) ?_
  refine qh_in (by decide +kernel) ?_
  refine br_t (by decide +kernel) ?_
  refine qh_in (by decide +kernel) ?_
  refine br_t (by decide +kernel) ?_
  refine nm_r (e' := ((-1) : Int32)) (by decide +kernel) ?_
  refine br_t (by decide +kernel) ?_
  refine Exists.intro 5 ?_
  refine br_f (by decide +kernel) ?_
  refine qc_211 (by decide +kernel) ?_
  dsimp only
  refine nm_r (e' := (2 : Int32)) (by decide +kernel) ?_
  refine br_f (by decide +kernel) ?_
  refine qc_213 (by decide +kernel) ?_
  dsimp only
  refine nm_r (e' := (1 : Int32)) (by decide +kernel) ?_
  refine br_f (by decide +kernel) ?_
  refine qc_216 (by decide +kernel) ?_
  dsimp only
  refine nm_r (e' := (0 : Int32)) (by decide +kernel) ?_
  refine br_f (by decide +kernel) ?_
  refine qc_218 (by decide +kernel) ?_
  dsimp only
  refine nm_r (e' := ((-1) : Int32)) (by decide +kernel) ?_
  refine br_t (by decide +kernel) ?_
  exact h
theorem qc_220 {t : Nat} {va : Nat → Int32} {post : St2 → Prop} (h : post (30, 28, 0, 0, 6, 1, 0, 0, 1, 0, 19, 0, 0, 0, 0, (qa_1_30 t), qa_2_15, qa_8_42, qa_4_15, qa_8_54, qa_8_43, qa_7_8, qa_8_31, qa_9_19, (qa_10_19 t), (fun _ => 0), (fun _ => 0), va)) : wpX_sum post (30, 20, 0, 0, 3, 1, 0, 0, 1, 0, 13, 0, 0, 0, 0, (qa_1_30 t), qa_2_9, qa_8_24, qa_4_9, qa_8_30, qa_8_25, qa_7_4, qa_8_31, qa_9_13, (qa_10_13 t), (fun _ => 0), (fun _ => 0), va) := by
  unfold wpX_sum
  dsimp only
  refine Exists.intro 10 ?_
  refine br_f (by decide +kernel) ?_
  refine br_f (by decide +kernel) ?_
  refine br_t (by decide +kernel) ?_
  refine br_f (by decide +kernel) ?_
  refine qc_171 ?_
  dsimp only
  refine br_t (by decide +kernel) ?_
  refine nm_r (e' := (1 : Int32)) (by decide +kernel) ?_
  refine br_f (by decide +kernel) ?_
  refine br_f (by decide +kernel) ?_
  refine br_t (by decide +kernel) ?_
  refine br_f (by decide +kernel) ?_
  refine qc_173 ?_
  dsimp only
  refine br_t (by decide +kernel) ?_
  refine nm_r (e' := (2 : Int32)) (by decide +kernel) ?_
  refine br_f (by decide +kernel) ?_
  refine br_f (by decide +kernel) ?_
  refine br_t (by decide +kernel) ?_
  refine br_f (by decide +kernel) ?_
  refine qc_177 ?_
  dsimp only
  refine br_f (by decide +kernel) ?_
  refine nm_r (e' := (3 : Int32)) (by decide +kernel) ?_
  refine br_f (by decide +kernel) ?_
  refine br_f (by decide +kernel) ?_
  refine br_t (by decide +kernel) ?_
  refine br_t (by decide +kernel) ?_
  refine qc_183 ?_
  dsimp only
  refine br_t (by decide +kernel) ?_
  refine br_t (by decide +kernel) ?_
  refine nm_r (e' := (4 : Int32)) (by decide +kernel) ?_
  refine br_f (by decide +kernel) ?_
  refine br_f (by decide +kernel) ?_
  refine br_t (by decide +kernel) ?_
  refine br_f (by decide +kernel) ?_
  refine qc_187 ?_
  dsimp only
  refine br_f (by decide +kernel) ?_
  refine nm_r (e' := (5 : Int32)) (by decide +kernel) ?_
  refine br_f (by decide +kernel) ?_
  refine br_f (by decide +kernel) ?_
  refine br_t (by decide +kernel) ?_
  refine br_t (by decide +kernel) ?_
  refine qc_195 ?_
  dsimp only
  refine br_f (by decide +kernel) ?_
  refine br_t (by decide +kernel) ?_
  refine nm_r (e' := (6 : Int32)) (by decide +kernel) ?_
  refine br_f (by decide +kernel) ?_
  refine br_f (by decide +kernel) ?_
  refine br_t (by decide +kernel) ?_
  refine br_t (by decide +kernel) ?_
  refine qc_200 ?_
  dsimp only
  refine br_t (by decide +kernel) ?_
  refine br_t (by decide +kernel) ?_
  refine nm_r (e' := (7 : Int32)) (by decide +kernel) ?_
  refine br_f (by decide +kernel) ?_
  refine br_f (by decide +kernel) ?_
  refine br_t (by decide +kernel) ?_
  refine br_f (by decide +kernel) ?_
  refine qc_204 ?_
  dsimp only
  refine br_f (by decide +kernel) ?_
  refine nm_r (e' := (8 : Int32)) (by decide +kernel) ?_
  refine br_f (by decide +kernel) ?_
  refine br_f (by decide +kernel) ?_
  refine br_t (by decide +kernel) ?_
  refine br_t (by decide +kernel) ?_
  refine qc_205 ?_
  dsimp only
  refine br_f (by decide +kernel) ?_
  refine br_f (by decide +kernel) ?_
  refine nm_r (e' := (9 : Int32)) (by decide +kernel) ?_
  refine br_f (by decide +kernel) ?_
  refine br_t (by decide +kernel) ?_
  refine br_t (by decide +kernel) ?_
  refine qc_208 (by decide +kernel) ?_
  dsimp only
  refine br_t (by decide +kernel) ?_
  refine qc_219 (by decide +kernel) ?_
  dsimp only
  exact h
def qa_9_20 : Nat → Int32 := upd qa_9_19 19 10
def qa_10_20 (t : Nat) : Nat → Int32 := upd (qa_10_19 t) 19 3
theorem qc_221 {t : Nat} {va : Nat → Int32} {post : St2 → Prop} {y0 y1 : Int32} (e0 : y0 = 10) (e1 : y1 = 3) (h : post (30, 28, 0, 0, 6, 1, 0, 0, 1, 0, 20, 0, 0, 0, 0, (qa_1_30 t), qa_2_15, qa_8_42, qa_4_15, qa_8_54, qa_8_43, qa_7_8, qa_8_31, qa_9_20, (qa_10_20 t), (fun _ => 0), (fun _ => 0), va)) : wpX_put post (30, 28, 0, 0, 6, 1, 0, 0, 1, 0, 19, 0, 0, 0, 0, (qa_1_30 t), qa_2_15, qa_8_42, qa_4_15, qa_8_54, qa_8_43, qa_7_8, qa_8_31, qa_9_19, (qa_10_19 t), (fun _ => 0), (fun _ => 0), va) y0 y1 := by
  subst e0 e1
  unfold wpX_put
  dsimp only
  refine br_t (by decide +kernel) ?_
  refine qh_in (by decide +kernel) ?_
  refine nm_r (e' := qa_9_20) (qh_up (by decide +kernel) (by decide +kernel)) ?_
  refine qh_in (by decide +kernel) ?_
  refine nm_r (e' := (qa_10_20 t)) (qh_up (by decide +kernel) (by decide +kernel)) ?_
  refine nm_r (e' := (20 : Int32)) (by decide +kernel) ?_
  exact h
theorem qc_222 {t : Nat} {va : Nat → Int32} {post : Int32 → St2 → Prop} {y0 : Int32} (e0 : y0 = 59) (h : post 1 (30, 29, 0, 0, 6, 1, 0, 0, 1, 0, 20, 0, 0, 0, 0, (qa_1_30 t), qa_2_15, qa_8_42, qa_4_15, qa_8_54, qa_8_43, qa_7_8, qa_8_31, qa_9_20, (qa_10_20 t), (fun _ => 0), (fun _ => 0), va)) : wpX_accept post (30, 28, 0, 0, 6, 1, 0, 0, 1, 0, 20, 0, 0, 0, 0, (qa_1_30 t), qa_2_15, qa_8_42, qa_4_15, qa_8_54, qa_8_43, qa_7_8, qa_8_31, qa_9_20, (qa_10_20 t), (fun _ => 0), (fun _ => 0), va) y0 := by
  subst e0
  unfold wpX_accept
  dsimp only
  refine qh_peek (k := 28) (q := 59) (by decide +kernel) (by decide +kernel) (by decide +kernel) qs_28 (by decide +kernel) (by omega) ?_
  refine br_t (by decide +kernel) ?_
  refine nm_r (e' := (29 : Int32)) (by decide +kernel) ?_
  exact h
theorem qc_223 {t : Nat} {va : Nat → Int32} {post : St2 → Prop} (h : post (30, 29, 0, 0, 6, 1, 0, 0, 1, 0, 20, 0, 0, 0, 0, (qa_1_30 t), qa_2_15, qa_8_42, qa_4_15, qa_8_54, qa_8_43, qa_7_8, qa_8_31, qa_9_20, (qa_10_20 t), (fun _ => 0), (fun _ => 0), va)) : wpX_statement post (30, 18, 0, 0, 3, 1, 0, 0, 1, 0, 13, 0, 0, 0, 0, (qa_1_30 t), qa_2_9, qa_8_24, qa_4_9, qa_8_30, qa_8_25, qa_7_4, qa_8_31, qa_9_13, (qa_10_13 t), (fun _ => 0), (fun _ => 0), va) := by
  unfold wpX_statement
  dsimp only
  refine qh_peek (k := 18) (q := 100) (by decide +kernel) (by decide +kernel) (by decide +kernel) qs_18 (by decide +kernel) (by omega) ?_
  refine nm_r (e' := (19 : Int32)) (by decide +kernel) ?_
  refine qc_59 (by decide +kernel) ?_
  refine br_f (by decide +kernel) ?_
  refine qc_169 (by decide +kernel) ?_
  dsimp only
  refine br_t (by decide +kernel) ?_
  refine qc_220 ?_
  dsimp only
  refine qc_221 (by decide +kernel) (by decide +kernel) ?_
  dsimp only
  refine qc_222 (by decide +kernel) ?_
  dsimp only
  exact h
def qa_10_21 (t : Nat) : Nat → Int32 := upd (qa_10_20 t) 12 20
theorem qc_224 {t : Nat} {va : Nat → Int32} {post : St2 → Prop} (h : post (30, 30, 0, 0, 6, 1, 0, 0, 0, 0, 20, 0, 0, 0, 0, (qa_1_30 t), qa_2_15, qa_8_42, qa_4_15, qa_8_54, qa_8_43, qa_7_8, qa_8_31, qa_9_20, (qa_10_21 t), (fun _ => 0), (fun _ => 0), va)) : wpX_close post (30, 30, 0, 0, 6, 1, 0, 0, 1, 0, 20, 0, 0, 0, 0, (qa_1_30 t), qa_2_15, qa_8_42, qa_4_15, qa_8_54, qa_8_43, qa_7_8, qa_8_31, qa_9_20, (qa_10_20 t), (fun _ => 0), (fun _ => 0), va) := by
  unfold wpX_close
  dsimp only
  refine br_f (by decide +kernel) ?_
  refine nm_r (e' := (0 : Int32)) (by decide +kernel) ?_
  refine br_f (by decide +kernel) ?_
  refine qh_in (by decide +kernel) ?_
  refine nm_r (e' := (12 : Int32)) (by decide +kernel) ?_
  refine qh_in (by decide +kernel) ?_
  refine br_f (by decide +kernel) ?_
  refine qh_in (by decide +kernel) ?_
  refine nm_r (e' := (qa_10_21 t)) (qh_up (by decide +kernel) (by decide +kernel)) ?_
  exact h
theorem qc_225 {t : Nat} {va : Nat → Int32} {post : St2 → Prop} (h : post (30, 30, 0, 0, 6, 1, 0, 0, 0, 0, 20, 0, 0, 0, 0, (qa_1_30 t), qa_2_15, qa_8_42, qa_4_15, qa_8_54, qa_8_43, qa_7_8, qa_8_31, qa_9_20, (qa_10_21 t), (fun _ => 0), (fun _ => 0), va)) : wpX_statement post (30, 29, 0, 0, 6, 1, 0, 0, 1, 0, 20, 0, 0, 0, 0, (qa_1_30 t), qa_2_15, qa_8_42, qa_4_15, qa_8_54, qa_8_43, qa_7_8, qa_8_31, qa_9_20, (qa_10_20 t), (fun _ => 0), (fun _ => 0), va) := by
  unfold wpX_statement
  dsimp only
  refine qh_peek (k := 29) (q := 125) (by decide +kernel) (by decide +kernel) (by decide +kernel) qs_29 (by decide +kernel) (by omega) ?_
  refine nm_r (e' := (30 : Int32)) (by decide +kernel) ?_
  refine qc_43 (by decide +kernel) ?_
  refine br_t (by decide +kernel) ?_
  refine br_f (by decide +kernel) ?_
  refine br_f (by decide +kernel) ?_
  refine br_t (by decide +kernel) ?_
  refine qc_224 ?_
  dsimp only
  exact h
theorem qc_226 {t : Nat} {va : Nat → Int32} {post : Int32 → St2 → Prop} (ht : t < 10) (h : post 0 (30, 30, 0, 0, 6, 1, 0, 0, 0, 1, 20, 0, 0, 0, 0, (qa_1_30 t), qa_2_15, qa_8_42, qa_4_15, qa_8_54, qa_8_43, qa_7_8, qa_8_31, qa_9_20, (qa_10_21 t), (fun _ => 0), (fun _ => 0), va)) : wpX_compile post (30, 0, 0, 0, 0, 0, 0, 0, 0, 0, 0, 0, 0, 0, 0, (qa_1_30 t), (fun _ => 0), (fun _ => 0), (fun _ => 0), (fun _ => 0), (fun _ => 0), (fun _ => 0), (fun _ => 0), (fun _ => 0), (fun _ => 0), (fun _ => 0), (fun _ => 0), va) := by
  unfold wpX_compile
  dsimp only
  refine Exists.intro 7 ?_
  refine br_f (by decide +kernel) ?_
  refine br_f (by decide +kernel) ?_
  refine br_t (by decide +kernel) ?_
  refine qc_87 ht ?_
  dsimp only
  refine nm_r (e' := (1 : Int32)) (by decide +kernel) ?_
  refine br_f (by decide +kernel) ?_
  refine br_f (by decide +kernel) ?_
  refine br_t (by decide +kernel) ?_
  refine qc_136 ?_
  dsimp only
  refine nm_r (e' := (2 : Int32)) (by decide +kernel) ?_
  refine br_f (by decide +kernel) ?_
  refine br_f (by decide +kernel) ?_
  refine br_t (by decide +kernel) ?_
  refine qc_139 ?_
  dsimp only
  refine nm_r (e' := (3 : Int32)) (by decide +kernel) ?_
  refine br_f (by decide +kernel) ?_
  refine br_f (by decide +kernel) ?_
  refine br_t (by decide +kernel) ?_
  refine qc_168 ?_
  dsimp only
  refine nm_r (e' := (4 : Int32)) (by decide +kernel) ?_
  refine br_f (by decide +kernel) ?_
  refine br_f (by decide +kernel) ?_
  refine br_t (by decide +kernel) ?_
  refine qc_223 ?_
  dsimp only
  refine nm_r (e' := (5 : Int32)) (by decide +kernel) ?_
  refine br_f (by decide +kernel) ?_
  refine br_f (by decide +kernel) ?_
  refine br_t (by decide +kernel) ?_
  refine qc_225 ?_
  dsimp only
  refine nm_r (e' := (6 : Int32)) (by decide +kernel) ?_
  refine br_f (by decide +kernel) ?_
  refine br_t (by decide +kernel) ?_
  refine br_t (by decide +kernel) ?_
  refine br_t (by decide +kernel) ?_
  refine br_t (by decide +kernel) ?_
  exact h
theorem qo_0 : qa_9_20 0 = 12 := rfl
theorem qo_1 : qa_9_20 1 = 2 := rfl
theorem qg_1 {t : Nat} : (qa_10_21 t) 1 = nI 2 := rfl
theorem qo_2 : qa_9_20 2 = 2 := rfl
theorem qg_2 {t : Nat} : (qa_10_21 t) 2 = nI 1 := rfl
theorem qo_3 : qa_9_20 3 = 8 := rfl
theorem qg_3 {t : Nat} : (qa_10_21 t) 3 = nI 2 := rfl
theorem qo_4 : qa_9_20 4 = 2 := rfl
theorem qg_4 {t : Nat} : (qa_10_21 t) 4 = nI 0 := rfl
theorem qo_5 : qa_9_20 5 = 5 := rfl
theorem qg_5 {t : Nat} : (qa_10_21 t) 5 = nI 1 := rfl
theorem qo_6 : qa_9_20 6 = 3 := rfl
theorem qg_6 {t : Nat} : (qa_10_21 t) 6 = nI 0 := rfl
theorem qo_7 : qa_9_20 7 = 10 := rfl
theorem qg_7 {t : Nat} : (qa_10_21 t) 7 = nI 0 := rfl
theorem qo_8 : qa_9_20 8 = 13 := rfl
theorem qg_8 {t : Nat} : (qa_10_21 t) 8 = nI 0 := rfl
theorem qo_9 : qa_9_20 9 = 2 := rfl
theorem qg_9 {t : Nat} : (qa_10_21 t) 9 = nI 1 := rfl
theorem qo_10 : qa_9_20 10 = 2 := rfl
theorem qg_10 {t : Nat} : (qa_10_21 t) 10 = nI 2 := rfl
theorem qo_11 : qa_9_20 11 = 6 := rfl
theorem qg_11 {t : Nat} : (qa_10_21 t) 11 = nI 0 := rfl
theorem qo_12 : qa_9_20 12 = 11 := rfl
theorem qg_12 {t : Nat} : (qa_10_21 t) 12 = nI 20 := rfl
theorem qo_13 : qa_9_20 13 = 2 := rfl
theorem qg_13 {t : Nat} : (qa_10_21 t) 13 = nI 2 := rfl
theorem qo_14 : qa_9_20 14 = 2 := rfl
theorem qg_14 {t : Nat} : (qa_10_21 t) 14 = nI 1 := rfl
theorem qo_15 : qa_9_20 15 = 4 := rfl
theorem qg_15 {t : Nat} : (qa_10_21 t) 15 = nI 0 := rfl
theorem qo_16 : qa_9_20 16 = 8 := rfl
theorem qg_16 {t : Nat} : (qa_10_21 t) 16 = nI 2 := rfl
theorem qo_17 : qa_9_20 17 = 2 := rfl
theorem qg_17 {t : Nat} : (qa_10_21 t) 17 = nI 0 := rfl
theorem qo_18 : qa_9_20 18 = 7 := rfl
theorem qg_18 {t : Nat} : (qa_10_21 t) 18 = nI 3 := rfl
theorem qo_19 : qa_9_20 19 = 10 := rfl
theorem qg_19 {t : Nat} : (qa_10_21 t) 19 = nI 3 := rfl
theorem qg_0 {t : Nat} : (qa_10_21 t) 0 = nI t := (pk_sub (a := 48 + t) (b := 48) (by omega)).trans (by rw [Nat.add_sub_cancel_left])
end
section
theorem qr_127 {k : Nat} (hk : k < 127) : (nI k + 1) &&& 127 = nI (k + 1) := by
  rw [nI_1, pk_andN (by omega) 7 (by decide), Nat.mod_eq_of_lt (by omega)]
theorem qr_app {sz at_ wr de no tr wa ins bl re le hd ru so : Int32} {a1 a2 a3 a4 a5 a6 a7 a8 a9 a10 a11 a12 a13 : Nat → Int32} {post : St2 → Prop} {k : Nat} {v w : Int32} (hk : k < 127) (hv : v = w) (h : post (sz, at_, wr, de, no, tr, wa, ins, bl, re, le, hd, nI (k + 1), ru, so, a1, a2, a3, a4, a5, a6, a7, a8, a9, a10, upd a11 k w, a12, a13)) : wpX_append post (sz, at_, wr, de, no, tr, wa, ins, bl, re, le, hd, nI k, ru, so, a1, a2, a3, a4, a5, a6, a7, a8, a9, a10, a11, a12, a13) v := by
  subst hv
  unfold wpX_append
  dsimp only
  refine ⟨vp_in_nI (by omega) (by omega), ?_⟩
  refine nm_r (e' := upd a11 k v) (by rw [nI_clamp (by omega)]) ?_
  exact nm_r (qr_127 hk) h
theorem qr_take {sz at_ wr de no tr wa ins bl re le tl ru so : Int32} {a1 a2 a3 a4 a5 a6 a7 a8 a9 a10 a11 a12 a13 : Nat → Int32} {post : Int32 → St2 → Prop} {j : Nat} {w : Int32} (hj : j < 127) (hw : a11 j = w) (h : post w (sz, at_, wr, de, no, tr, wa, ins, bl, re, le, nI (j + 1), tl, ru, so, a1, a2, a3, a4, a5, a6, a7, a8, a9, a10, a11, a12, a13)) : wpX_take post (sz, at_, wr, de, no, tr, wa, ins, bl, re, le, nI j, tl, ru, so, a1, a2, a3, a4, a5, a6, a7, a8, a9, a10, a11, a12, a13) := by
  unfold wpX_take
  dsimp only
  refine ⟨vp_in_nI (by omega) (by omega), ?_⟩
  refine nm_r (e' := w) (by rw [nI_clamp (by omega)]; exact hw) ?_
  exact nm_r (qr_127 hj) h
theorem qr_take2 {sz at_ wr de no tr wa ins bl re le tl ru so : Int32} {a1 a2 a3 a4 a5 a6 a7 a8 a9 a10 a11 a12 a13 : Nat → Int32} {post : Int32 → St2 → Prop} {j : Nat} {w : Int32} (hj : j < 127) (hw : a11 j = w) (h : post w (sz, at_, wr, de, no, tr, wa, ins, bl, re, le, nI (j + 1), tl, ru, so, a1, a2, a3, a4, a5, a6, a7, a8, a9, a10, a11, a12, a13)) : wpX_take_2 post (sz, at_, wr, de, no, tr, wa, ins, bl, re, le, nI j, tl, ru, so, a1, a2, a3, a4, a5, a6, a7, a8, a9, a10, a11, a12, a13) := by
  unfold wpX_take_2
  dsimp only
  refine ⟨vp_in_nI (by omega) (by omega), ?_⟩
  refine nm_r (e' := w) (by rw [nI_clamp (by omega)]; exact hw) ?_
  exact nm_r (qr_127 hj) h
theorem qr_cvar {sz at_ wr de no tr wa ins bl re le hd ru so : Int32} {a1 a2 a3 a4 a5 a6 a7 a8 a9 a10 a11 a12 a13 : Nat → Int32} {post : St2 → Prop} {k v : Nat} {w : Int32} (hk : k < 127) (hv : v < 8) (hw : a13 v = w) (h : post (sz, at_, wr, de, no, tr, wa, ins, bl, re, le, hd, nI (k + 1), ru, so, a1, a2, a3, a4, a5, a6, a7, a8, a9, a10, upd a11 k w, a12, a13)) : wpX_calculate post (sz, at_, wr, de, no, tr, wa, ins, bl, re, le, hd, nI k, ru, so, a1, a2, a3, a4, a5, a6, a7, a8, a9, a10, a11, a12, a13) 2 (nI v) := by
  unfold wpX_calculate
  dsimp only
  refine br_f (by decide +kernel) (br_t rfl ⟨vp_in_nI hv (by omega), ?_⟩)
  exact qr_app hk (by rw [nI_clamp (by omega)]; exact hw) h
theorem qr_cneg {sz at_ wr de no tr wa ins bl re le ru so : Int32} {a1 a2 a3 a4 a5 a6 a7 a8 a9 a10 a11 a12 a13 : Nat → Int32} {post : St2 → Prop} {j k : Nat} {w x : Int32} (hj : j < 127) (hk : k < 127) (hw : a11 j = w) (h : post (sz, at_, wr, de, no, tr, wa, ins, bl, re, le, nI (j + 1), nI (k + 1), ru, so, a1, a2, a3, a4, a5, a6, a7, a8, a9, a10, upd a11 k (-w), a12, a13)) : wpX_calculate post (sz, at_, wr, de, no, tr, wa, ins, bl, re, le, nI j, nI k, ru, so, a1, a2, a3, a4, a5, a6, a7, a8, a9, a10, a11, a12, a13) 8 x := by
  unfold wpX_calculate
  dsimp only
  refine br_f (by decide +kernel) (br_f (by decide +kernel) ?_)
  refine qr_take hj hw ?_
  refine br_t rfl ?_
  exact qr_app hk rfl h
theorem qr_cbin {sz at_ wr de no tr wa ins bl re le ru so : Int32} {a1 a2 a3 a4 a5 a6 a7 a8 a9 a10 a11 a12 a13 : Nat → Int32} {post : St2 → Prop} {j k : Nat} {o w z x r : Int32} (hj : j < 126) (hk : k < 127) (hw : a11 j = w) (hz : a11 (j + 1) = z)
    (ho : (o = 3 ∧ r = w + z) ∨ (o = 4 ∧ r = w - z) ∨ (o = 5 ∧ r = w * z) ∨ (o = 7 ∧ r = w &&& z) ∨ (o = 6 ∧ r = if z ≤ w then 0 else 1))
    (h : post (sz, at_, wr, de, no, tr, wa, ins, bl, re, le, nI (j + 2), nI (k + 1), ru, so, a1, a2, a3, a4, a5, a6, a7, a8, a9, a10, upd a11 k r, a12, a13)) : wpX_calculate post (sz, at_, wr, de, no, tr, wa, ins, bl, re, le, nI j, nI k, ru, so, a1, a2, a3, a4, a5, a6, a7, a8, a9, a10, a11, a12, a13) o x := by
  unfold wpX_calculate
  dsimp only
  rcases ho with ⟨e, er⟩ | ⟨e, er⟩ | ⟨e, er⟩ | ⟨e, er⟩ | ⟨e, er⟩
  · subst e er
    refine br_f (by decide +kernel) (br_f (by decide +kernel) ?_)
    refine qr_take (by omega) hw ?_
    refine br_f (by decide +kernel) ?_
    refine qr_take (by omega) hz ?_
    refine br_f (by decide +kernel) (br_f (by decide +kernel) (br_t rfl ?_))
    exact qr_app hk rfl h
  · subst e er
    refine br_f (by decide +kernel) (br_f (by decide +kernel) ?_)
    refine qr_take (by omega) hw ?_
    refine br_f (by decide +kernel) ?_
    refine qr_take (by omega) hz ?_
    refine br_f (by decide +kernel) (br_f (by decide +kernel) (br_f (by decide +kernel) (br_t rfl ?_)))
    exact qr_app hk rfl h
  · subst e er
    refine br_f (by decide +kernel) (br_f (by decide +kernel) ?_)
    refine qr_take (by omega) hw ?_
    refine br_f (by decide +kernel) ?_
    refine qr_take (by omega) hz ?_
    refine br_f (by decide +kernel) (br_f (by decide +kernel) (br_f (by decide +kernel) (br_f (by decide +kernel) (br_t rfl ?_))))
    exact qr_app hk rfl h
  · subst e er
    refine br_f (by decide +kernel) (br_f (by decide +kernel) ?_)
    refine qr_take (by omega) hw ?_
    refine br_f (by decide +kernel) ?_
    refine qr_take (by omega) hz ?_
    refine br_f (by decide +kernel) (br_t (by decide +kernel) ?_)
    exact qr_app hk rfl h
  · subst e er
    refine br_f (by decide +kernel) (br_f (by decide +kernel) ?_)
    refine qr_take (by omega) hw ?_
    refine br_f (by decide +kernel) ?_
    refine qr_take (by omega) hz ?_
    refine br_f (by decide +kernel) (br_f (by decide +kernel) (br_f (by decide +kernel) (br_f (by decide +kernel) (br_f (by decide +kernel) (br_t rfl ?_)))))
    refine br_c (fun g => ?_) (fun g => ?_)
    · rw [if_pos g] at h
      unfold wX_calculate_129
      exact qr_app hk rfl h
    · rw [if_neg g] at h
      unfold wX_calculate_129
      exact qr_app hk rfl h
theorem qr_perf {sz at_ wr de no tr wa ins bl re le hd tl ru so : Int32} {a1 a2 a3 a4 a5 a6 a7 a8 a9 a10 a11 a12 a13 : Nat → Int32} {post : Int32 → St2 → Prop} {p : Nat} {o x : Int32} (hp : p < 200) (ho : a9 p = o) (hx : a10 p = x) (h8 : o ≤ 8)
    (h : wpX_calculate (fun u => match u with | (sz, at_, wr, de, no, tr, wa, ins, bl, re, le, hd, tl, ru, so, a1, a2, a3, a4, a5, a6, a7, a8, a9, a10, a11, a12, a13) => post (nI (p + 1)) (sz, at_, wr, de, no, tr, wa, ins, bl, re, le, hd, tl, ru, so, a1, a2, a3, a4, a5, a6, a7, a8, a9, a10, a11, a12, a13)) (sz, at_, wr, de, no, tr, wa, ins, bl, re, le, hd, tl, ru, so, a1, a2, a3, a4, a5, a6, a7, a8, a9, a10, a11, a12, a13) o x) : wpX_perform post (sz, at_, wr, de, no, tr, wa, ins, bl, re, le, hd, tl, ru, so, a1, a2, a3, a4, a5, a6, a7, a8, a9, a10, a11, a12, a13) (nI p) := by
  unfold wpX_perform
  dsimp only
  refine ⟨vp_in_nI hp (by omega), ?_⟩
  refine nm_r (e' := o) (by rw [nI_clamp (by omega)]; exact ho) ?_
  refine ⟨vp_in_nI hp (by omega), ?_⟩
  refine nm_r (e' := x) (by rw [nI_clamp (by omega)]; exact hx) ?_
  refine br_f (fun z => ?_) ?_
  · exact absurd h8 (Int32.not_le.mpr z)
  · rw [nI_1]
    exact h
theorem qr_pstore {sz at_ wr de no tr wa ins bl re le tl ru : Int32} {a1 a2 a3 a4 a5 a6 a7 a8 a9 a10 a11 a12 a13 : Nat → Int32} {post : Int32 → St2 → Prop} {p j v s : Nat} {w : Int32} (hp : p < 200) (ho : a9 p = 10) (hx : a10 p = nI v) (hv : v < 8) (hj : j < 127) (hw : a11 j = w)
    (h : post (nI (p + 1)) (sz, at_, wr, de, no, tr, wa, ins, bl, re, le, nI (j + 1), tl, ru, nI (s + 1), a1, a2, a3, a4, a5, a6, a7, a8, a9, a10, a11, a12, upd a13 v w)) : wpX_perform post (sz, at_, wr, de, no, tr, wa, ins, bl, re, le, nI j, tl, ru, nI s, a1, a2, a3, a4, a5, a6, a7, a8, a9, a10, a11, a12, a13) (nI p) := by
  unfold wpX_perform
  dsimp only
  refine ⟨vp_in_nI hp (by omega), ?_⟩
  refine nm_r (e' := 10) (by rw [nI_clamp (by omega)]; exact ho) ?_
  refine ⟨vp_in_nI hp (by omega), ?_⟩
  refine nm_r (e' := nI v) (by rw [nI_clamp (by omega)]; exact hx) ?_
  refine br_t (by decide +kernel) (br_t rfl ?_)
  refine qr_take2 hj hw ?_
  refine ⟨vp_in_nI hv (by omega), ?_⟩
  refine nm_r (e' := upd a13 v w) (by rw [nI_clamp (by omega)]) ?_
  refine nm_r (nI_1 s) ?_
  rw [nI_1]
  exact h
theorem qr_pskip {sz at_ wr de no tr wa ins bl re le tl ru so : Int32} {a1 a2 a3 a4 a5 a6 a7 a8 a9 a10 a11 a12 a13 : Nat → Int32} {post : Int32 → St2 → Prop} {p j : Nat} {w x : Int32} (hp : p < 200) (ho : a9 p = 11) (hx : a10 p = x) (hj : j < 127) (hw : a11 j = w)
    (h0 : w = 0 → post x (sz, at_, wr, de, no, tr, wa, ins, bl, re, le, nI (j + 1), tl, ru, so, a1, a2, a3, a4, a5, a6, a7, a8, a9, a10, a11, a12, a13)) (h1 : ¬ w = 0 → post (nI (p + 1)) (sz, at_, wr, de, no, tr, wa, ins, bl, re, le, nI (j + 1), tl, ru, so, a1, a2, a3, a4, a5, a6, a7, a8, a9, a10, a11, a12, a13)) : wpX_perform post (sz, at_, wr, de, no, tr, wa, ins, bl, re, le, nI j, tl, ru, so, a1, a2, a3, a4, a5, a6, a7, a8, a9, a10, a11, a12, a13) (nI p) := by
  unfold wpX_perform
  dsimp only
  refine ⟨vp_in_nI hp (by omega), ?_⟩
  refine nm_r (e' := 11) (by rw [nI_clamp (by omega)]; exact ho) ?_
  refine ⟨vp_in_nI hp (by omega), ?_⟩
  refine nm_r (e' := x) (by rw [nI_clamp (by omega)]; exact hx) ?_
  refine br_t (by decide +kernel) (br_f (by decide +kernel) (br_t rfl ?_))
  refine qr_take hj hw ?_
  refine br_c h0 (fun g => ?_)
  rw [nI_1]
  exact h1 g
end
section
theorem qr_svar {sz at_ wr de no tr wa ins bl re hd ru so : Int32} {a1 a2 a3 a4 a5 a6 a7 a8 a9 a10 a11 a12 a13 : Nat → Int32} {post : Int32 → St2 → Prop} {n p s k v : Nat} {w : Int32} (hs : s < 150000) (hp : p < 20) (ho : a9 p = 2) (hx : a10 p = nI v) (hv : v < 8) (hk : k < 127) (hw : a13 v = w)
    (h : wX_run_34 post n (nI (p + 1)) (nI (s + 1)) sz at_ wr de no tr wa ins bl re 20 hd (nI (k + 1)) ru so a1 a2 a3 a4 a5 a6 a7 a8 a9 a10 (upd a11 k w) a12 a13) : wX_run_34 post (n + 1) (nI p) (nI s) sz at_ wr de no tr wa ins bl re 20 hd (nI k) ru so a1 a2 a3 a4 a5 a6 a7 a8 a9 a10 a11 a12 a13 := by
  refine br_f (nI_ge (b := 150000) hs (by omega)) (br_f (nI_ge (b := 20) hp (by omega)) ?_)
  refine qr_perf (by omega) ho hx (by decide +kernel) ?_
  refine qr_cvar hk hv hw ?_
  exact nm_r (nI_1 s) h
theorem qr_sneg {sz at_ wr de no tr wa ins bl re ru so : Int32} {a1 a2 a3 a4 a5 a6 a7 a8 a9 a10 a11 a12 a13 : Nat → Int32} {post : Int32 → St2 → Prop} {n p s j k : Nat} {w : Int32} (hs : s < 150000) (hp : p < 20) (ho : a9 p = 8) (hj : j < 127) (hk : k < 127) (hw : a11 j = w)
    (h : wX_run_34 post n (nI (p + 1)) (nI (s + 1)) sz at_ wr de no tr wa ins bl re 20 (nI (j + 1)) (nI (k + 1)) ru so a1 a2 a3 a4 a5 a6 a7 a8 a9 a10 (upd a11 k (-w)) a12 a13) : wX_run_34 post (n + 1) (nI p) (nI s) sz at_ wr de no tr wa ins bl re 20 (nI j) (nI k) ru so a1 a2 a3 a4 a5 a6 a7 a8 a9 a10 a11 a12 a13 := by
  refine br_f (nI_ge (b := 150000) hs (by omega)) (br_f (nI_ge (b := 20) hp (by omega)) ?_)
  refine qr_perf (by omega) ho rfl (by decide +kernel) ?_
  refine qr_cneg hj hk hw ?_
  exact nm_r (nI_1 s) h
theorem qr_sbin {sz at_ wr de no tr wa ins bl re ru so : Int32} {a1 a2 a3 a4 a5 a6 a7 a8 a9 a10 a11 a12 a13 : Nat → Int32} {post : Int32 → St2 → Prop} {n p s j k : Nat} {o w z r : Int32} (hs : s < 150000) (hp : p < 20) (ho : a9 p = o) (ho8 : o ≤ 8) (hj : j < 126) (hk : k < 127) (hw : a11 j = w) (hz : a11 (j + 1) = z)
    (hr : (o = 3 ∧ r = w + z) ∨ (o = 4 ∧ r = w - z) ∨ (o = 5 ∧ r = w * z) ∨ (o = 7 ∧ r = w &&& z) ∨ (o = 6 ∧ r = if z ≤ w then 0 else 1))
    (h : wX_run_34 post n (nI (p + 1)) (nI (s + 1)) sz at_ wr de no tr wa ins bl re 20 (nI (j + 2)) (nI (k + 1)) ru so a1 a2 a3 a4 a5 a6 a7 a8 a9 a10 (upd a11 k r) a12 a13) : wX_run_34 post (n + 1) (nI p) (nI s) sz at_ wr de no tr wa ins bl re 20 (nI j) (nI k) ru so a1 a2 a3 a4 a5 a6 a7 a8 a9 a10 a11 a12 a13 := by
  refine br_f (nI_ge (b := 150000) hs (by omega)) (br_f (nI_ge (b := 20) hp (by omega)) ?_)
  refine qr_perf (by omega) ho rfl ho8 ?_
  refine qr_cbin hj hk hw hz hr ?_
  exact nm_r (nI_1 s) h
theorem qr_sstore {sz at_ wr de no tr wa ins bl re tl ru : Int32} {a1 a2 a3 a4 a5 a6 a7 a8 a9 a10 a11 a12 a13 : Nat → Int32} {post : Int32 → St2 → Prop} {n p s j v q : Nat} {w : Int32} (hs : s < 150000) (hp : p < 20) (ho : a9 p = 10) (hx : a10 p = nI v) (hv : v < 8) (hj : j < 127) (hw : a11 j = w)
    (h : wX_run_34 post n (nI (p + 1)) (nI (s + 1)) sz at_ wr de no tr wa ins bl re 20 (nI (j + 1)) tl ru (nI (q + 1)) a1 a2 a3 a4 a5 a6 a7 a8 a9 a10 a11 a12 (upd a13 v w)) : wX_run_34 post (n + 1) (nI p) (nI s) sz at_ wr de no tr wa ins bl re 20 (nI j) tl ru (nI q) a1 a2 a3 a4 a5 a6 a7 a8 a9 a10 a11 a12 a13 := by
  refine br_f (nI_ge (b := 150000) hs (by omega)) (br_f (nI_ge (b := 20) hp (by omega)) ?_)
  refine qr_pstore (by omega) ho hx hv hj hw ?_
  exact nm_r (nI_1 s) h
theorem qr_sskip {sz at_ wr de no tr wa ins bl re tl ru so : Int32} {a1 a2 a3 a4 a5 a6 a7 a8 a9 a10 a11 a12 a13 : Nat → Int32} {post : Int32 → St2 → Prop} {n p s j : Nat} {w x : Int32} (hs : s < 150000) (hp : p < 20) (ho : a9 p = 11) (hx : a10 p = x) (hj : j < 127) (hw : a11 j = w)
    (h0 : w = 0 → wX_run_34 post n x (nI (s + 1)) sz at_ wr de no tr wa ins bl re 20 (nI (j + 1)) tl ru so a1 a2 a3 a4 a5 a6 a7 a8 a9 a10 a11 a12 a13)
    (h1 : ¬ w = 0 → wX_run_34 post n (nI (p + 1)) (nI (s + 1)) sz at_ wr de no tr wa ins bl re 20 (nI (j + 1)) tl ru so a1 a2 a3 a4 a5 a6 a7 a8 a9 a10 a11 a12 a13) : wX_run_34 post (n + 1) (nI p) (nI s) sz at_ wr de no tr wa ins bl re 20 (nI j) tl ru so a1 a2 a3 a4 a5 a6 a7 a8 a9 a10 a11 a12 a13 := by
  refine br_f (nI_ge (b := 150000) hs (by omega)) (br_f (nI_ge (b := 20) hp (by omega)) ?_)
  refine qr_pskip (by omega) ho hx hj hw (fun g => ?_) (fun g => ?_)
  · exact nm_r (nI_1 s) (h0 g)
  · exact nm_r (nI_1 s) (h1 g)
theorem qr_send {sz at_ wr de no tr wa ins bl re hd tl ru so : Int32} {a1 a2 a3 a4 a5 a6 a7 a8 a9 a10 a11 a12 a13 : Nat → Int32} {post : Int32 → St2 → Prop} {n s : Nat} (hs : s < 150000) (h : post so (sz, at_, wr, de, no, tr, wa, ins, bl, re, 20, hd, tl, ru, so, a1, a2, a3, a4, a5, a6, a7, a8, a9, a10, a11, a12, a13)) : wX_run_34 post (n + 1) (nI 20) (nI s) sz at_ wr de no tr wa ins bl re 20 hd tl ru so a1 a2 a3 a4 a5 a6 a7 a8 a9 a10 a11 a12 a13 := by
  exact br_f (nI_ge (b := 150000) hs (by omega)) (br_t (by decide +kernel) h)
theorem qr_end17 {sz at_ wr de no tr wa ins bl re le hd tl ru so : Int32} {a1 a2 a3 a4 a5 a6 a7 a8 a9 a10 a11 a12 a13 : Nat → Int32} {post : Int32 → St2 → Prop} {p m : Nat} (h12 : a12 0 = nI (m + 1)) (hm : m < 10) (h0 : m = 0 → post (nI (p + 1)) (sz, at_, wr, de, no, tr, wa, ins, bl, re, le, hd, tl, 0, so, a1, a2, a3, a4, a5, a6, a7, a8, a9, a10, a11, upd a12 0 (nI m), a13)) (h1 : 0 < m → post (nI 1) (sz, at_, wr, de, no, tr, wa, ins, bl, re, le, hd, tl, ru, so, a1, a2, a3, a4, a5, a6, a7, a8, a9, a10, a11, upd a12 0 (nI m), a13)) :
    wX_endTurn_17 post (nI p) 0 0 sz at_ wr de no tr wa ins bl re le hd tl ru so a1 a2 a3 a4 a5 a6 a7 a8 a9 a10 a11 a12 a13 := by
  unfold wX_endTurn_17
  refine qh_in (by decide +kernel) (qh_in (by decide +kernel) (nm_r (e' := upd a12 0 (nI m)) (qh_up (by decide +kernel) ?_) (qh_in (by decide +kernel) ?_)))
  · rw [sb_cl0, h12, nI_pred]
  · have e : upd a12 0 (nI m) (0 : Int32).toNatClampNeg = nI m := by rw [sb_cl0, pk_us]
    rw [e, nI_1]
    exact pk_le m 0 (fun z => h0 (by omega)) (fun z => qh_v2 (by decide +kernel) (h1 (by omega)))
theorem qr_sspan {sz at_ wr de no tr wa ins bl re hd tl so : Int32} {a1 a2 a3 a4 a5 a6 a7 a8 a9 a10 a11 a12 a13 : Nat → Int32} {post : Int32 → St2 → Prop} {n p s m : Nat} (hs : s < 150000) (hp : p < 20) (ho : a9 p = 13) (hx : a10 p = 0) (h12 : a12 0 = nI (m + 1)) (hm : m < 10)
    (h0 : m = 0 → wX_run_34 post n (nI (p + 1)) (nI (s + 1)) sz at_ wr de no tr wa ins bl re 20 hd tl 0 so a1 a2 a3 a4 a5 a6 a7 a8 a9 a10 a11 (upd a12 0 (nI m)) a13)
    (h1 : 0 < m → wX_run_34 post n (nI 1) (nI (s + 1)) sz at_ wr de no tr wa ins bl re 20 hd tl 1 so a1 a2 a3 a4 a5 a6 a7 a8 a9 a10 a11 (upd a12 0 (nI m)) a13) : wX_run_34 post (n + 1) (nI p) (nI s) sz at_ wr de no tr wa ins bl re 20 hd tl 1 so a1 a2 a3 a4 a5 a6 a7 a8 a9 a10 a11 a12 a13 := by
  refine br_f (nI_ge (b := 150000) hs (by omega)) (br_f (nI_ge (b := 20) hp (by omega)) ?_)
  unfold wpX_perform
  dsimp only
  refine ⟨vp_in_nI (by omega) (by omega), ?_⟩
  refine nm_r (e' := 13) (by rw [nI_clamp (by omega)]; exact ho) ?_
  refine ⟨vp_in_nI (by omega) (by omega), ?_⟩
  refine nm_r (e' := 0) (by rw [nI_clamp (by omega)]; exact hx) ?_
  refine br_t (by decide +kernel) (br_f (by decide +kernel) (br_f (by decide +kernel) (br_f (by decide +kernel) ?_)))
  unfold wpX_endTurn
  dsimp only
  refine br_f (by decide +kernel) ?_
  rw [show (1 : Int32) - 1 = 0 from by decide +kernel]
  refine qr_end17 h12 hm (fun g => ?_) (fun g => ?_)
  · exact nm_r (nI_1 s) (h0 g)
  · exact nm_r (nI_1 s) (h1 g)
theorem qr_b53 {sz at_ wr de no tr wa ins bl re hd tl ru so : Int32} {a1 a2 a3 a4 a5 a6 a7 a8 a9 a10 a11 a12 a13 : Nat → Int32} {post : Int32 → St2 → Prop} (hq : ∀ i, i < 7 → ¬ a9 (i + 1) = 13) (h8 : a9 8 = 13) (hx8 : a10 8 = 0) (h : post (nI 9) (sz, at_, wr, de, no, tr, wa, ins, bl, re, 20, hd, tl, ru, so, a1, a2, a3, a4, a5, a6, a7, a8, a9, a10, a11, a12, a13)) : ∃ n, wX_beginTurns_53 post 0 sz at_ wr de no tr wa ins bl re 20 hd tl ru so a1 a2 a3 a4 a5 a6 a7 a8 a9 a10 a11 a12 a13 n (nI 1) (nI 0) :=
  pk_loop (σ := Unit) (fun n i _ => wX_beginTurns_53 post 0 sz at_ wr de no tr wa ins bl re 20 hd tl ru so a1 a2 a3 a4 a5 a6 a7 a8 a9 a10 a11 a12 a13 n (nI (i + 1)) (nI i)) (fun _ _ => True) 7 0 () (by omega) trivial
    (fun n _ _ => by
      show wX_beginTurns_53 post 0 sz at_ wr de no tr wa ins bl re 20 hd tl ru so a1 a2 a3 a4 a5 a6 a7 a8 a9 a10 a11 a12 a13 (n + 1) (nI 8) (nI 7)
      refine br_f (by decide +kernel) (br_f (by decide +kernel) ⟨vp_in_nI (by omega) (by omega), br_t ?_ ⟨vp_in_nI (by omega) (by omega), br_t ?_ ?_⟩⟩)
      · rw [nI_clamp (by omega)]; exact h8
      · rw [nI_clamp (by omega)]; exact hx8
      · exact qh_v2 (by decide +kernel) h)
    (fun n i _ hi _ hw => by
      show wX_beginTurns_53 post 0 sz at_ wr de no tr wa ins bl re 20 hd tl ru so a1 a2 a3 a4 a5 a6 a7 a8 a9 a10 a11 a12 a13 (n + 1) (nI (i + 1)) (nI i)
      refine br_f (nI_ge (b := 200) (by omega) (by omega)) (br_f ?_ ⟨vp_in_nI (by omega) (by omega), br_f ?_ (nm_r (nI_1 _) (nm_r (nI_1 _) (hw () trivial)))⟩)
      · rw [show (20 : Int32) - 1 = nI 19 from by decide +kernel]; exact nI_ge (by omega) (by omega)
      · rw [nI_clamp (by omega)]; exact hq i hi)
theorem qr_sturn {sz at_ wr de no tr wa ins bl re hd tl so : Int32} {a1 a2 a3 a4 a5 a6 a7 a8 a9 a10 a11 a12 a13 : Nat → Int32} {post : Int32 → St2 → Prop} {n s m : Nat} (hs : s < 150000) (ho : a9 0 = 12) (hx : a10 0 = nI (m + 1)) (hm : m < 10)
    (h : wX_run_34 post n (nI 1) (nI (s + 1)) sz at_ wr de no tr wa ins bl re 20 hd tl 1 so a1 a2 a3 a4 a5 a6 a7 a8 a9 a10 a11 (upd a12 0 (nI (m + 1))) a13) : wX_run_34 post (n + 1) (nI 0) (nI s) sz at_ wr de no tr wa ins bl re 20 hd tl 0 so a1 a2 a3 a4 a5 a6 a7 a8 a9 a10 a11 a12 a13 := by
  refine br_f (nI_ge (b := 150000) hs (by omega)) (br_f (nI_ge (b := 20) (by omega) (by omega)) ?_)
  unfold wpX_perform
  dsimp only
  refine ⟨vp_in_nI (by omega) (by omega), ?_⟩
  refine nm_r (e' := 12) (by rw [nI_clamp (by omega)]; exact ho) ?_
  refine ⟨vp_in_nI (by omega) (by omega), ?_⟩
  refine nm_r (e' := nI (m + 1)) (by rw [nI_clamp (by omega)]; exact hx) ?_
  refine br_t (by decide +kernel) (br_f (by decide +kernel) (br_f (by decide +kernel) (br_t rfl ?_)))
  unfold wpX_beginTurns
  dsimp only
  refine br_f (by decide +kernel) (qh_in (by decide +kernel) ?_)
  refine nm_r (e' := upd a12 0 (nI (m + 1))) (qh_up (by decide +kernel) rfl) ?_
  unfold wX_beginTurns_18
  refine nm_r (e' := 1) (by decide +kernel) ?_
  refine br_f (nI_nle (by omega) (by omega)) ?_
  rw [nI_1 0]
  exact nm_r (nI_1 s) h
theorem qr_sturn0 {sz at_ wr de no tr wa ins bl re hd tl so : Int32} {a1 a2 a3 a4 a5 a6 a7 a8 a9 a10 a11 a12 a13 : Nat → Int32} {post : Int32 → St2 → Prop} {n s : Nat} (hs : s < 150000) (ho : a9 0 = 12) (hx : a10 0 = nI 0) (hq : ∀ i, i < 7 → ¬ a9 (i + 1) = 13) (h8 : a9 8 = 13) (hx8 : a10 8 = 0)
    (h : wX_run_34 post n (nI 9) (nI (s + 1)) sz at_ wr de no tr wa ins bl re 20 hd tl 0 so a1 a2 a3 a4 a5 a6 a7 a8 a9 a10 a11 (upd a12 0 (nI 0)) a13) : wX_run_34 post (n + 1) (nI 0) (nI s) sz at_ wr de no tr wa ins bl re 20 hd tl 0 so a1 a2 a3 a4 a5 a6 a7 a8 a9 a10 a11 a12 a13 := by
  refine br_f (nI_ge (b := 150000) hs (by omega)) (br_f (nI_ge (b := 20) (by omega) (by omega)) ?_)
  unfold wpX_perform
  dsimp only
  refine ⟨vp_in_nI (by omega) (by omega), ?_⟩
  refine nm_r (e' := 12) (by rw [nI_clamp (by omega)]; exact ho) ?_
  refine ⟨vp_in_nI (by omega) (by omega), ?_⟩
  refine nm_r (e' := nI 0) (by rw [nI_clamp (by omega)]; exact hx) ?_
  refine br_t (by decide +kernel) (br_f (by decide +kernel) (br_f (by decide +kernel) (br_t rfl ?_)))
  unfold wpX_beginTurns
  dsimp only
  refine br_f (by decide +kernel) (qh_in (by decide +kernel) ?_)
  refine nm_r (e' := upd a12 0 (nI 0)) (qh_up (by decide +kernel) rfl) ?_
  unfold wX_beginTurns_18
  refine nm_r (e' := 1) (by decide +kernel) ?_
  refine br_t (by decide +kernel) ?_
  refine nm_r (e' := 0) (by decide +kernel) ?_
  refine nm_r (e' := nI 1) (nI_1 0) ?_
  refine qr_b53 hq h8 hx8 ?_
  exact nm_r (nI_1 s) h
end
section
theorem qr_body {sz at_ wr de no tr wa ins bl re : Int32} {a1 a2 a3 a4 a5 a6 a7 a8 a11 a12 a13 : Nat → Int32} {post : Int32 → St2 → Prop} {t n h q s m : Nat} {A x y : Int32} (hh : h ≤ 100) (hs : s ≤ 1000) (hm : m < 10) (h12 : a12 0 = nI (m + 1)) (v0 : a13 0 = A) (v1 : a13 1 = x) (v2 : a13 2 = y)
    (H0 : m = 0 → ∀ ring : Nat → Int32, wX_run_34 post n (nI 9) (nI (s + 8)) sz at_ wr de no tr wa ins bl re 20 (nI (h + 6)) (nI (h + 6)) 0 (nI (q + 1)) a1 a2 a3 a4 a5 a6 a7 a8 qa_9_20 (qa_10_21 t) ring (upd a12 0 (nI m)) (upd a13 0 (A + x * -y)))
    (H1 : 0 < m → ∀ ring : Nat → Int32, wX_run_34 post n (nI 1) (nI (s + 8)) sz at_ wr de no tr wa ins bl re 20 (nI (h + 6)) (nI (h + 6)) 1 (nI (q + 1)) a1 a2 a3 a4 a5 a6 a7 a8 qa_9_20 (qa_10_21 t) ring (upd a12 0 (nI m)) (upd a13 0 (A + x * -y))) :
    wX_run_34 post (n + 8) (nI 1) (nI s) sz at_ wr de no tr wa ins bl re 20 (nI h) (nI h) 1 (nI q) a1 a2 a3 a4 a5 a6 a7 a8 qa_9_20 (qa_10_21 t) a11 a12 a13 := by
  refine qr_svar (v := 2) (w := y) (by omega) (by omega) qo_1 qg_1 (by omega) (by omega) v2 ?_
  refine qr_svar (v := 1) (w := x) (by omega) (by omega) qo_2 qg_2 (by omega) (by omega) v1 ?_
  refine qr_sneg (w := y) (by omega) (by omega) qo_3 (by omega) (by omega) (by simp [upd]) ?_
  refine qr_svar (v := 0) (w := A) (by omega) (by omega) qo_4 qg_4 (by omega) (by omega) v0 ?_
  refine qr_sbin (w := x) (z := -y) (r := x * -y) (by omega) (by omega) qo_5 (by decide +kernel) (by omega) (by omega) (by simp [upd]) (by simp [upd]) (Or.inr (Or.inr (Or.inl ⟨rfl, rfl⟩))) ?_
  refine qr_sbin (w := A) (z := x * -y) (r := A + x * -y) (by omega) (by omega) qo_6 (by decide +kernel) (by omega) (by omega) (by simp [upd]) (by simp [upd]) (Or.inl ⟨rfl, rfl⟩) ?_
  refine qr_sstore (v := 0) (w := A + x * -y) (by omega) (by omega) qo_7 qg_7 (by omega) (by omega) pk_us ?_
  exact qr_sspan (by omega) (by omega) qo_8 qg_8 h12 hm (fun g => H0 g _) (fun g => H1 g _)
theorem qr_tail {sz at_ wr de no tr wa ins bl re ru : Int32} {a1 a2 a3 a4 a5 a6 a7 a8 a11 a12 a13 : Nat → Int32} {post : Int32 → St2 → Prop} {t h q s : Nat} {A x y : Int32} (hh : h ≤ 100) (hs : s ≤ 1000) (v0 : a13 0 = A) (v1 : a13 1 = x) (v2 : a13 2 = y)
    (H0 : y ≤ x → ∀ (h1 h2 : Int32) (ring : Nat → Int32), post (nI q) (sz, at_, wr, de, no, tr, wa, ins, bl, re, 20, h1, h2, ru, nI q, a1, a2, a3, a4, a5, a6, a7, a8, qa_9_20, (qa_10_21 t), ring, a12, a13))
    (H1 : ¬ y ≤ x → ∀ (h1 h2 : Int32) (ring : Nat → Int32), post (nI (q + 1)) (sz, at_, wr, de, no, tr, wa, ins, bl, re, 20, h1, h2, ru, nI (q + 1), a1, a2, a3, a4, a5, a6, a7, a8, qa_9_20, (qa_10_21 t), ring, a12, upd a13 3 (-(y - x) &&& A))) :
    wX_run_34 post 12 (nI 9) (nI s) sz at_ wr de no tr wa ins bl re 20 (nI h) (nI h) ru (nI q) a1 a2 a3 a4 a5 a6 a7 a8 qa_9_20 (qa_10_21 t) a11 a12 a13 := by
  refine qr_svar (v := 1) (w := x) (by omega) (by omega) qo_9 qg_9 (by omega) (by omega) v1 ?_
  refine qr_svar (v := 2) (w := y) (by omega) (by omega) qo_10 qg_10 (by omega) (by omega) v2 ?_
  refine qr_sbin (w := x) (z := y) (r := if y ≤ x then 0 else 1) (by omega) (by omega) qo_11 (by decide +kernel) (by omega) (by omega) (by simp [upd]) (by simp [upd]) (Or.inr (Or.inr (Or.inr (Or.inr ⟨rfl, rfl⟩)))) ?_
  refine qr_sskip (w := if y ≤ x then 0 else 1) (x := nI 20) (by omega) (by omega) qo_12 qg_12 (by omega) pk_us (fun g => ?_) (fun g => ?_)
  · have c : y ≤ x := by
      by_cases c : y ≤ x
      · exact c
      · rw [if_neg c] at g
        exact absurd g (by decide +kernel)
    exact qr_send (by omega) (H0 c _ _ _)
  · have c : ¬ y ≤ x := fun c => g (if_pos c)
    refine qr_svar (v := 2) (w := y) (by omega) (by omega) qo_13 qg_13 (by omega) (by omega) v2 ?_
    refine qr_svar (v := 1) (w := x) (by omega) (by omega) qo_14 qg_14 (by omega) (by omega) v1 ?_
    refine qr_sbin (w := y) (z := x) (r := y - x) (by omega) (by omega) qo_15 (by decide +kernel) (by omega) (by omega) (by simp [upd]) (by simp [upd]) (Or.inr (Or.inl ⟨rfl, rfl⟩)) ?_
    refine qr_sneg (w := y - x) (by omega) (by omega) qo_16 (by omega) (by omega) (by simp [upd]) ?_
    refine qr_svar (v := 0) (w := A) (by omega) (by omega) qo_17 qg_17 (by omega) (by omega) v0 ?_
    refine qr_sbin (w := -(y - x)) (z := A) (r := -(y - x) &&& A) (by omega) (by omega) qo_18 (by decide +kernel) (by omega) (by omega) (by simp [upd]) (by simp [upd]) (Or.inr (Or.inr (Or.inr (Or.inl ⟨rfl, rfl⟩)))) ?_
    refine qr_sstore (v := 3) (w := -(y - x) &&& A) (by omega) (by omega) qo_19 qg_19 (by omega) (by omega) pk_us ?_
    exact qr_send (by omega) (H1 c _ _ _)
theorem qr_alg (a x y : Int32) (i : Nat) : a - nI i * (x * y) + x * -y = a - nI (i + 1) * (x * y) := by
  rw [← nI_1]
  grind
theorem qr_alg0 (a x y : Int32) : a = a - nI 0 * (x * y) := by
  rw [nI_0]
  grind
theorem qr_turns {sz at_ wr de no tr wa ins bl re : Int32} {a1 a2 a3 a4 a5 a6 a7 a8 : Nat → Int32} {post : Int32 → St2 → Prop} {t : Nat} {a x y d : Int32} (ht : t < 10)
    (H : ∀ ring tu v : Nat → Int32, v 0 = a - nI t * (x * y) → v 1 = x → v 2 = y → v 3 = d → wX_run_34 post 12 (nI 9) (nI (8 * t + 1)) sz at_ wr de no tr wa ins bl re 20 (nI (6 * t)) (nI (6 * t)) 0 (nI t) a1 a2 a3 a4 a5 a6 a7 a8 qa_9_20 (qa_10_21 t) ring tu v) :
    ∀ (m i : Nat) (ring tu v : Nat → Int32), i + m + 1 = t → tu 0 = nI (m + 1) → v 0 = a - nI i * (x * y) → v 1 = x → v 2 = y → v 3 = d →
      wX_run_34 post (12 + 8 * (m + 1)) (nI 1) (nI (8 * i + 1)) sz at_ wr de no tr wa ins bl re 20 (nI (6 * i)) (nI (6 * i)) 1 (nI i) a1 a2 a3 a4 a5 a6 a7 a8 qa_9_20 (qa_10_21 t) ring tu v := by
  intro m
  induction m with
  | zero =>
    intro i ring tu v hi htu h0 h1 h2 h3
    refine qr_body (n := 12) (m := 0) (by omega) (by omega) (by omega) htu h0 h1 h2 (fun _ r => ?_) (fun z _ => absurd z (by omega))
    have g := H r (upd tu 0 (nI 0)) (upd v 0 (a - nI i * (x * y) + x * -y)) (by rw [pk_us, qr_alg, show i + 1 = t by omega]) (by rw [pk_un (by decide)]; exact h1) (by rw [pk_un (by decide)]; exact h2) (by rw [pk_un (by decide)]; exact h3)
    rw [show 8 * t + 1 = 8 * i + 1 + 8 by omega, show 6 * t = 6 * i + 6 by omega, show nI t = nI (i + 1) by rw [show i + 1 = t by omega]] at g
    exact g
  | succ m ih =>
    intro i ring tu v hi htu h0 h1 h2 h3
    rw [show 12 + 8 * (m + 1 + 1) = (12 + 8 * (m + 1)) + 8 by omega]
    refine qr_body (m := m + 1) (by omega) (by omega) (by omega) htu h0 h1 h2 (fun z _ => absurd z (by omega)) (fun _ r => ?_)
    have g := ih (i + 1) r (upd tu 0 (nI (m + 1))) (upd v 0 (a - nI i * (x * y) + x * -y)) (by omega) pk_us (by rw [pk_us, qr_alg]) (by rw [pk_un (by decide)]; exact h1) (by rw [pk_un (by decide)]; exact h2) (by rw [pk_un (by decide)]; exact h3)
    rw [show 8 * (i + 1) + 1 = 8 * i + 1 + 8 by omega, show 6 * (i + 1) = 6 * i + 6 by omega] at g
    exact g
theorem qr_run {sz at_ wr de no tr wa ins bl : Int32} {a1 a2 a3 a4 a5 a6 a7 a8 a11 a12 a13 : Nat → Int32} {post : Int32 → St2 → Prop} {t : Nat} {a x y d : Int32} (ht : t < 10) (v0 : a13 0 = a) (v1 : a13 1 = x) (v2 : a13 2 = y) (v3 : a13 3 = d)
    (H0 : y ≤ x → ∀ (h1 h2 : Int32) (ring tu v : Nat → Int32), v 0 = a - nI t * (x * y) → v 1 = x → v 2 = y → v 3 = d → post (nI t) (sz, at_, wr, de, no, tr, wa, ins, bl, 1, 20, h1, h2, 0, nI t, a1, a2, a3, a4, a5, a6, a7, a8, qa_9_20, (qa_10_21 t), ring, tu, v))
    (H1 : ¬ y ≤ x → ∀ (h1 h2 : Int32) (ring tu v : Nat → Int32), v 0 = a - nI t * (x * y) → v 1 = x → v 2 = y → v 3 = -(y - x) &&& (a - nI t * (x * y)) → post (nI (t + 1)) (sz, at_, wr, de, no, tr, wa, ins, bl, 1, 20, h1, h2, 0, nI (t + 1), a1, a2, a3, a4, a5, a6, a7, a8, qa_9_20, (qa_10_21 t), ring, tu, v)) :
    wpX_run post (sz, at_, wr, de, no, tr, wa, ins, bl, 1, 20, 0, 0, 0, 0, a1, a2, a3, a4, a5, a6, a7, a8, qa_9_20, (qa_10_21 t), a11, a12, a13) := by
  have T : ∀ ring tu v : Nat → Int32, v 0 = a - nI t * (x * y) → v 1 = x → v 2 = y → v 3 = d → wX_run_34 post 12 (nI 9) (nI (8 * t + 1)) sz at_ wr de no tr wa ins bl 1 20 (nI (6 * t)) (nI (6 * t)) 0 (nI t) a1 a2 a3 a4 a5 a6 a7 a8 qa_9_20 (qa_10_21 t) ring tu v :=
    fun ring tu v h0 h1 h2 h3 => qr_tail (by omega) (by omega) h0 h1 h2 (fun g _ _ r => H0 g _ _ r tu v h0 h1 h2 h3)
      (fun g _ _ r => H1 g _ _ r tu _ (by rw [pk_un (by decide)]; exact h0) (by rw [pk_un (by decide)]; exact h1) (by rw [pk_un (by decide)]; exact h2) pk_us)
  unfold wpX_run
  dsimp only
  refine br_f (by decide +kernel) ?_
  rcases t with _ | m
  · refine ⟨12 + 1, ?_⟩
    refine qr_sturn0 (s := 0) (by omega) qo_0 qg_0 (by decide +kernel) qo_8 qg_8 ?_
    exact T _ _ _ (v0.trans (qr_alg0 a x y)) v1 v2 v3
  · refine ⟨12 + 8 * (m + 1) + 1, ?_⟩
    refine qr_sturn (s := 0) (m := m) (by omega) qo_0 qg_0 (by omega) ?_
    exact qr_turns ht T m 0 _ _ _ (by omega) pk_us (v0.trans (qr_alg0 a x y)) v1 v2 v3
end
section
theorem ql_init {sz at_ wr de no tr wa ins bl re le hd tl ru so : Int32} {post : St2 → Prop} {mc ms : Nat} (hc : 13 ≤ mc) (hs : 1236 ≤ ms)
    (h : post (0, at_, wr, de, no, tr, wa, ins, bl, re, le, hd, tl, ru, so, (fun _ => 0), (fun _ => 0), (fun _ => 0), (fun _ => 0), (fun _ => 0), (fun _ => 0), (fun _ => 0), (fun _ => 0), (fun _ => 0), (fun _ => 0), (fun _ => 0), (fun _ => 0), (fun _ => 0))) :
    wpX_init post mc ms (sz, at_, wr, de, no, tr, wa, ins, bl, re, le, hd, tl, ru, so) := by
  unfold wpX_init
  dsimp only
  exact ⟨by omega, by omega, by omega, by omega, by omega, by omega, by omega, by omega, by omega, by omega, by omega, by omega, by omega, by omega, by omega, by omega, by omega, by omega, by omega, by omega, by omega, by omega, by omega, by omega, by omega, by omega, h⟩
theorem ql_set {sz at_ wr de no tr wa ins bl re le hd tl ru so : Int32} {a1 a2 a3 a4 a5 a6 a7 a8 a9 a10 a11 a12 a13 : Nat → Int32} {post : Int32 → St2 → Prop} {k : Nat} {w : Int32} (hk : k < 8) (h : post 0 (sz, at_, wr, de, no, tr, wa, ins, bl, re, le, hd, tl, ru, so, a1, a2, a3, a4, a5, a6, a7, a8, a9, a10, a11, a12, upd a13 k w)) : wpX_set post (sz, at_, wr, de, no, tr, wa, ins, bl, re, le, hd, tl, ru, so, a1, a2, a3, a4, a5, a6, a7, a8, a9, a10, a11, a12, a13) (nI k) w := by
  unfold wpX_set
  dsimp only
  refine br_f (nI_pos (by omega)) (br_t (nI_le (a := k) (b := 7) (by omega) (by omega)) ⟨vp_in_nI hk (by omega), ?_⟩)
  exact nm_r (e' := upd a13 k w) (by rw [nI_clamp (by omega)]) h
theorem ql_get {sz at_ wr de no tr wa ins bl re le hd tl ru so : Int32} {a1 a2 a3 a4 a5 a6 a7 a8 a9 a10 a11 a12 a13 : Nat → Int32} {post : Int32 → Prop} {k : Nat} {w : Int32} (hk : k < 8) (hw : a13 k = w) (h : post w) : wpX_get post (sz, at_, wr, de, no, tr, wa, ins, bl, re, le, hd, tl, ru, so, a1, a2, a3, a4, a5, a6, a7, a8, a9, a10, a11, a12, a13) (nI k) := by
  unfold wpX_get
  dsimp only
  refine br_f (nI_pos (by omega)) (br_t (nI_le (a := k) (b := 7) (by omega) (by omega)) ⟨vp_in_nI hk (by omega), ?_⟩)
  exact ek_v (by rw [nI_clamp (by omega)]; exact hw) h
theorem ql_200 {at_ wr de no tr wa ins bl re le hd tl ru so : Int32} {a1 a2 a3 a4 a5 a6 a7 a8 a9 a10 a11 a12 a13 : Nat → Int32} {post : Int32 → St0 → Prop} {mc ms kc ks : Nat} {x y s e z0 z1 z2 : Int32} (hz : z2 = z1 + z0) (h0 : a13 0 = s) (h3 : a13 3 = e) (h1 : a13 1 = x) (h2 : a13 2 = y) (h : post 1 ()) :
    wL_lawOf_200 post mc ms x y s e z0 z1 z2 kc ks 30 at_ wr de no tr wa ins bl re le hd tl ru so a1 a2 a3 a4 a5 a6 a7 a8 a9 a10 a11 a12 a13 := by
  unfold wL_lawOf_200
  refine br_t hz ?_
  refine ql_get (k := 0) (by omega) h0 (br_t rfl ?_)
  refine ql_get (k := 3) (by omega) h3 (br_t rfl ?_)
  refine ql_get (k := 1) (by omega) h1 (br_t rfl ?_)
  refine ql_get (k := 2) (by omega) h2 (br_t rfl ?_)
  unfold wpX_length
  exact br_t rfl h
theorem ql_times (n : Int32) : ∃ t, t < 10 ∧ (n &&& 2147483647) - (n &&& 2147483647) / 10 * 10 = nI t := by
  refine ⟨n.toBitVec.toNat % 2 ^ 31 % 10, Nat.mod_lt _ (by omega), ?_⟩
  rw [pk_and n (m := 2147483647) 31 (by decide +kernel)]
  exact pk_rem (a := n.toBitVec.toNat % 2 ^ 31) (d := 10) (Nat.mod_lt _ (by omega)) (by omega) (by omega)
theorem ql_digit {t : Nat} (ht : t < 10) : ((48 + nI t).toUInt32 % 65536).toInt32 = nI (48 + t) := by
  rw [show (48 : Int32) + nI t = nI (48 + t) from nI_add 48 t, pk_char, pk_tn (by omega), Nat.mod_eq_of_lt (by omega)]
theorem ql_lawOf {post : Int32 → St0 → Prop} {mc ms : Nat} {a x y n d : Int32} (hc : 14 ≤ mc) (hs : 1264 ≤ ms) (h : post 1 ()) : wpL_lawOf post mc ms () a x y n d := by
  unfold wpL_lawOf
  refine ⟨by omega, by omega, 13, 1236, by omega, by omega, ?_⟩
  refine ql_init (by omega) (by omega) ?_
  refine ⟨by decide +kernel, ?_⟩
  obtain ⟨t, ht, et⟩ := ql_times n
  refine nm_r et ?_
  refine nm_r (ql_digit ht) ?_
  refine ql_set (k := 0) (by omega) ?_
  refine ql_set (k := 1) (by omega) ?_
  refine ql_set (k := 2) (by omega) ?_
  refine ql_set (k := 3) (by omega) ?_
  refine qc_18 ht rfl rfl rfl rfl rfl rfl ?_
  refine qc_41 rfl rfl rfl rfl rfl rfl ?_
  refine qc_57 rfl rfl rfl rfl rfl rfl ?_
  refine qc_69 rfl rfl rfl rfl rfl rfl ?_
  refine qc_82 rfl rfl rfl rfl rfl rfl ?_
  refine qc_226 ht ?_
  refine br_t rfl ?_
  refine nm_e ?_
  have v0 : upd (upd (upd (upd (fun _ => 0) 0 a) 1 x) 2 y) 3 d 0 = a := by simp [upd]
  have v1 : upd (upd (upd (upd (fun _ => 0) 0 a) 1 x) 2 y) 3 d 1 = x := by simp [upd]
  have v2 : upd (upd (upd (upd (fun _ => 0) 0 a) 1 x) 2 y) 3 d 2 = y := by simp [upd]
  have v3 : upd (upd (upd (upd (fun _ => 0) 0 a) 1 x) 2 y) 3 d 3 = d := by simp [upd]
  refine br_c (fun g => ?_) (fun g => ?_)
  · unfold wL_lawOf_181
    refine qr_run ht v0 v1 v2 v3 (fun _ _ _ _ _ v h0 h1 h2 h3 => ?_) (fun z => absurd g z)
    refine br_t g ?_
    exact ql_200 (Int32.add_zero _).symm h0 h3 h1 h2 h
  · unfold wL_lawOf_181
    refine qr_run ht v0 v1 v2 v3 (fun z => absurd z g) (fun _ _ _ _ _ v h0 h1 h2 h3 => ?_)
    refine br_f g ?_
    exact ql_200 (nI_1 t).symm h0 h3 h1 h2 h
theorem ql_cell {post : Int32 → Prop} {L p : Nat} {xs : Nat → Int32} (hL : L ≤ 5) (hp : p < 5) (h : ∀ r, post r) : wpL_cellAt post L xs () (nI p) := by
  unfold wpL_cellAt
  refine br_c (fun _ => h _) (fun g => ⟨?_, h _⟩)
  by_cases c : p < L
  · exact vp_in_nI c (by omega)
  · exact absurd (nI_le (a := L) (b := p) (by omega) (by omega)) g
theorem i_vc (xs : Nat → Int32) (L : Nat) (hL : L ≤ 5) : wpL_law (fun r => r = 1) L xs := by
  unfold wpL_law
  refine ql_cell (p := 0) hL (by omega) (fun a => ?_)
  refine ql_cell (p := 1) hL (by omega) (fun x => ?_)
  refine ql_cell (p := 2) hL (by omega) (fun y => ?_)
  refine ql_cell (p := 3) hL (by omega) (fun n => ?_)
  refine ql_cell (p := 4) hL (by omega) (fun d => ?_)
  exact ⟨14, 1264, by omega, by omega, ql_lawOf (by omega) (by omega) rfl⟩
end
