section
variable {ct dr rw pt kp st gr gf gs ff rg hl fl sd : Int32} {a1 a2 a3 a4 a5 : Nat → Int32}
/-- 0 or 1 -/
def cs_b (q : Bool) : Int32 := if q then 1 else 0
/-- the separator of dialect d -/
def cs_sp (d : Nat) : Nat := 5 + d % 2
theorem cs_sep : ∀ d, d < 8 → 5 + (nI d &&& 1) = nI (cs_sp d) := by decide +kernel
theorem cs_bit2 : ∀ d, d < 8 → ((nI d &&& 2) = 0 ↔ d / 2 % 2 = 0) := by decide +kernel
theorem cs_bit4 : ∀ d, d < 8 → ((nI d &&& 4) = 0 ↔ d < 4) := by decide +kernel
theorem cs_bit1 : ∀ d, d < 8 → ((nI d &&& 1) = 1 ↔ d % 2 = 1) := by decide +kernel
theorem cs_sp_le (d : Nat) : cs_sp d < 7 := by unfold cs_sp; omega
theorem cs_sp_ge (d : Nat) : 5 ≤ cs_sp d := by unfold cs_sp; omega
/-- place t, letter i -/
theorem cs_ix (t i : Nat) : nI t * 6 + nI i = nI (t * 6 + i) := by
  show nI t * nI 6 + nI i = nI (t * 6 + i)
  rw [pk_mul, nI_add]
theorem cs_i5 (r f : Nat) : nI r * 5 + nI f = nI (r * 5 + f) := by
  show nI r * nI 5 + nI f = nI (r * 5 + f)
  rw [pk_mul, nI_add]
theorem cs_i51 (r f : Nat) : nI r * 5 + nI (f + 1) - 1 = nI (r * 5 + f) := by
  rw [cs_i5]
  exact nI_pred (r * 5 + f)
theorem cs_i61 (t s : Nat) : nI t * 6 + nI (s + 1) - 1 = nI (t * 6 + s) := by
  rw [cs_ix]
  exact nI_pred (t * 6 + s)
/-- a character that wants quotes -/
def cs_bad (p c : Nat) : Bool := decide (7 ≤ c) || decide (c = p)
theorem cs_bad_t {p c : Nat} (h : 7 ≤ c ∨ c = p) : cs_bad p c = true := by
  unfold cs_bad
  rcases h with h | h
  · rw [decide_eq_true h]; rfl
  · rw [decide_eq_true h]; exact Bool.or_true _
theorem cs_bad_f {p c : Nat} (h : ¬ 7 ≤ c) (h' : ¬ c = p) : cs_bad p c = false := by
  unfold cs_bad
  rw [decide_eq_false h, decide_eq_false h']; rfl
theorem cs_bad_n {p c : Nat} (h : cs_bad p c = false) : c < 7 ∧ c ≠ p := by
  constructor
  · rcases Nat.lt_or_ge c 7 with g | g
    · exact g
    · rw [cs_bad_t (Or.inl g)] at h; exact absurd h (by decide)
  · intro g
    rw [cs_bad_t (Or.inr g)] at h; exact absurd h (by decide)
/-- the first m characters of X want quotes -/
def cs_qn (p : Nat) (X : Nat → Nat) : Nat → Bool
  | 0 => false
  | k + 1 => cs_qn p X k || cs_bad p (X k)
theorem cs_qn_s {p : Nat} {X : Nat → Nat} {k : Nat} : cs_qn p X (k + 1) = (cs_qn p X k || cs_bad p (X k)) := rfl
theorem cs_qn_mono {p : Nat} {X : Nat → Nat} {i : Nat} (h : cs_qn p X i = true) : ∀ k, cs_qn p X (i + k) = true := by
  intro k
  induction k with
  | zero => exact h
  | succ k ih =>
    show (cs_qn p X (i + k) || cs_bad p (X (i + k))) = true
    rw [ih]; rfl
theorem cs_qn_at {p : Nat} {X : Nat → Nat} {i m : Nat} (hi : i < m) (h : cs_bad p (X i) = true) : cs_qn p X m = true := by
  have e : m = (i + 1) + (m - (i + 1)) := by omega
  rw [e]
  refine cs_qn_mono ?_ _
  rw [cs_qn_s, h]
  exact Bool.or_true _
theorem cs_qn_no {p : Nat} {X : Nat → Nat} {m : Nat} (h : cs_qn p X m = false) : ∀ i, i < m → X i < 7 ∧ X i ≠ p := by
  intro i hi
  refine cs_bad_n ?_
  cases g : cs_bad p (X i) with
  | false => rfl
  | true =>
    rw [cs_qn_at hi g] at h
    exact absurd h (by decide)
/-- a character as it is written in a field -/
def cs_es (d c : Nat) : List Nat := if c = 7 then [if d < 4 then 7 else 10, 7] else [c]
/-- k characters of X from i on, as they are written -/
def cs_bs (d : Nat) (X : Nat → Nat) : Nat → Nat → List Nat
  | _, 0 => []
  | i, k + 1 => cs_es d (X i) ++ cs_bs d X (i + 1) k
theorem cs_bs_s (d : Nat) (X : Nat → Nat) (i k : Nat) : cs_bs d X i (k + 1) = cs_es d (X i) ++ cs_bs d X (i + 1) k := rfl
theorem cs_bs_0 (d : Nat) (X : Nat → Nat) (i : Nat) : cs_bs d X i 0 = [] := rfl
theorem cs_es_7 (d : Nat) {c : Nat} (h : c = 7) : cs_es d c = [if d < 4 then 7 else 10, 7] := by
  unfold cs_es; rw [if_pos h]
theorem cs_es_n (d : Nat) {c : Nat} (h : ¬ c = 7) : cs_es d c = [c] := by
  unfold cs_es; rw [if_neg h]
theorem cs_es_len (d c : Nat) : (cs_es d c).length ≤ 2 := by
  unfold cs_es; split <;> simp
theorem cs_bs_len (d : Nat) (X : Nat → Nat) : ∀ k i, (cs_bs d X i k).length ≤ 2 * k := by
  intro k
  induction k with
  | zero => intro i; exact Nat.le_refl 0
  | succ k ih =>
    intro i
    rw [cs_bs_s, List.length_append]
    have := cs_es_len d (X i)
    have := ih (i + 1)
    omega
def cs_q1 (q : Bool) : List Nat := if q then [7] else []
theorem cs_q1_len (q : Bool) : (cs_q1 q).length ≤ 1 := by cases q <;> decide
/-- a field as it is written -/
def cs_fo (d : Nat) (X : Nat → Nat) (m : Nat) (q : Bool) : List Nat := cs_q1 q ++ (cs_bs d X 0 m ++ cs_q1 q)
theorem cs_fo_len (d : Nat) (X : Nat → Nat) (m : Nat) (q : Bool) : (cs_fo d X m q).length ≤ 2 * m + 2 := by
  unfold cs_fo
  rw [List.length_append, List.length_append]
  have := cs_q1_len q
  have := cs_bs_len d X m 0
  omega
/-- the end of a record -/
def cs_el (d : Nat) : List Nat := if d / 2 % 2 = 0 then [8, 9] else [9]
theorem cs_el_len (d : Nat) : (cs_el d).length ≤ 2 := by
  unfold cs_el; split <;> simp
/-- the text -/
def cs_out (d : Nat) (X : Nat → Nat) (m : Nat) (Y : Nat → Nat) (k : Nat) : List Nat :=
  cs_fo d X m (cs_qn (cs_sp d) X m) ++ (cs_sp d :: (cs_fo d Y k (cs_qn (cs_sp d) Y k) ++ (cs_el d ++ (cs_fo d X 0 true ++ (cs_el d ++ [])))))
theorem cs_out_len (d : Nat) (X : Nat → Nat) (m : Nat) (Y : Nat → Nat) (k : Nat) (hm : m < 4) (hk : k < 4) : (cs_out d X m Y k).length ≤ 96 := by
  unfold cs_out
  rw [List.length_append, List.length_cons, List.length_append, List.length_append, List.length_append, List.length_append]
  have := cs_fo_len d X m (cs_qn (cs_sp d) X m)
  have := cs_fo_len d Y k (cs_qn (cs_sp d) Y k)
  have := cs_fo_len d X 0 true
  have := cs_el_len d
  have : ([] : List Nat).length = 0 := rfl
  omega
/-- from place x on the text o goes on with r -/
def cs_Q (o : List Nat) (x : Int32) (r : List Nat) : Prop := ∃ k, k + r.length = o.length ∧ x = nI k ∧ o.drop k = r
theorem cs_Q0 (o : List Nat) : cs_Q o 0 o := ⟨0, Nat.zero_add _, rfl, rfl⟩
theorem cs_Qend {o : List Nat} {x : Int32} (h : cs_Q o x []) : x = nI o.length := by
  obtain ⟨k, h1, h2, _⟩ := h
  rw [h2]
  exact congrArg nI h1
/-- the array a holds the text o -/
def cs_H (o : List Nat) (a : Nat → Int32) : Prop := ∀ i, i < o.length → a i = nI (o.getD i 0)
theorem cs_dr {o r : List Nat} {c k : Nat} (e : o.drop k = c :: r) : k < o.length ∧ o.getD k 0 = c ∧ o.drop (k + 1) = r := by
  have hk : k < o.length := by
    rcases Nat.lt_or_ge k o.length with h | h
    · exact h
    · rw [List.drop_eq_nil_of_le h] at e
      exact absurd e (by simp)
  rw [List.drop_eq_getElem_cons hk] at e
  injection e with e1 e2
  refine ⟨hk, ?_, e2⟩
  rw [List.getD_eq_getElem?_getD, List.getElem?_eq_getElem hk]
  exact e1
/-- the writer at place pt: what is still to come is r; the array as it was (a0), or what is written so far -/
def cs_W (o : List Nat) (a0 : Nat → Int32) (kp pt : Int32) (a : Nat → Int32) (r : List Nat) : Prop :=
  ∃ k, k + r.length = o.length ∧ pt = nI k ∧ o.drop k = r ∧ (kp = 0 → a = a0) ∧ (¬ kp = 0 → ∀ i, i < k → a i = nI (o.getD i 0))
theorem cs_W0 (o : List Nat) (a0 : Nat → Int32) (kp : Int32) : cs_W o a0 kp 0 a0 o :=
  ⟨0, Nat.zero_add _, rfl, rfl, fun _ => rfl, fun _ i hi => absurd hi (by omega)⟩
theorem cs_Wend {o : List Nat} {a0 a : Nat → Int32} {kp pt : Int32} (h : cs_W o a0 kp pt a []) : pt = nI o.length ∧ (kp = 0 → a = a0) ∧ (¬ kp = 0 → cs_H o a) := by
  obtain ⟨k, h1, h2, _, h4, h5⟩ := h
  have e : k = o.length := h1
  subst e
  exact ⟨h2, h4, h5⟩
theorem cs_emit {post : St2 → Prop} {o r : List Nat} {a0 : Nat → Int32} {c : Nat} {x : Int32} (ho : o.length ≤ 96) (h : cs_W o a0 kp pt a5 (c :: r))
    (H : ∀ pt' a5', cs_W o a0 kp pt' a5' r → post (ct, dr, rw, pt', kp, st, gr, gf, gs, ff, rg, hl, fl, sd, a1, a2, a3, a4, a5')) (hx : x = nI c := by rfl) : wpX_emit post (ct, dr, rw, pt, kp, st, gr, gf, gs, ff, rg, hl, fl, sd, a1, a2, a3, a4, a5) x := by
  obtain ⟨k, h1, h2, h3, h4, h5⟩ := h
  obtain ⟨g1, g2, g3⟩ := cs_dr h3
  subst h2 hx
  rw [List.length_cons] at h1
  refine br_c (fun z => nm_r (nI_1 k) (H _ _ ⟨k + 1, by omega, rfl, g3, h4, fun w => absurd z w⟩)) (fun z => ⟨pk_in k 96 (by omega), nm_e (nm_r (nI_1 k) (H _ _ ⟨k + 1, by omega, rfl, g3, fun w => absurd w z, fun _ i hi => ?_⟩))⟩)
  rw [nI_clamp (show k < 2 ^ 31 by omega)]
  by_cases e : i = k
  · rw [e, pk_us, g2]
  · rw [pk_un e]
    exact h5 z i (by omega)
/-- place t of the table holds the first m characters of X -/
def cs_f (a2 a3 : Nat → Int32) (t : Nat) (X : Nat → Nat) (m : Nat) : Prop := a2 t = nI m ∧ ∀ i, i < m → a3 (t * 6 + i) = nI (X i)
/-- the table: two records, the first of two fields, the second of one empty one -/
def cs_T (X : Nat → Nat) (m : Nat) (Y : Nat → Nat) (k : Nat) (a1 a2 a3 : Nat → Int32) : Prop :=
  a1 0 = nI 2 ∧ a1 1 = nI 1 ∧ cs_f a2 a3 0 X m ∧ cs_f a2 a3 1 Y k ∧ cs_f a2 a3 5 X 0
end
section
variable {ct dr rw pt kp st gr gf gs ff rg hl fl sd : Int32} {a1 a2 a3 a4 a5 : Nat → Int32}
theorem cs_nq {post : Int32 → Prop} {d t m : Nat} {X : Nat → Nat} (hd : d < 8) (ht : t < 30) (hm : m ≤ 6) (hX : ∀ i, X i < 10) (hf : cs_f a2 a3 t X m)
    (H : post (cs_b (cs_qn (cs_sp d) X m))) : wpX_needsQuotes post (ct, dr, rw, pt, kp, st, gr, gf, gs, ff, rg, hl, fl, sd, a1, a2, a3, a4, a5) (nI t) (nI d) := by
  have e2 : a2 (nI t).toNatClampNeg = nI m := by rw [nI_clamp (by omega)]; exact hf.1
  refine pk_loop (σ := Unit) (fun n i _ => wX_needsQuotes_2 post (nI t) (nI d) ct dr rw pt kp st gr gf gs ff rg hl fl sd a1 a2 a3 a4 a5 n (nI i)) (fun i _ => cs_qn (cs_sp d) X i = false) m 0 () (by omega) rfl ?_ ?_
  · intro n _ h
    refine ⟨pk_in t 30 ht, pk_le m m (fun _ => ?_) (fun z => absurd z (by omega)) e2⟩
    rw [h] at H
    exact H
  · intro n i _ hi h hw
    have hXi := hX i
    have e3 : a3 (nI t * 6 + nI i).toNatClampNeg = nI (X i) := by rw [cs_ix, nI_clamp (by omega)]; exact hf.2 i hi
    have ht1 : cs_bad (cs_sp d) (X i) = true → post 1 := by
      intro g
      rw [cs_qn_at hi g] at H
      exact H
    refine ⟨pk_in t 30 ht, pk_le m i (fun z => absurd z (by omega)) (fun _ => ⟨pk_in (t * 6 + i) 180 (by omega) (cs_ix t i), nm_r e3 ?_⟩) e2⟩
    refine pk_le 7 (X i) (fun z => ht1 (cs_bad_t (Or.inl z))) (fun z => ?_)
    have hsp := cs_sp_le d
    refine pk_eq (X i) (cs_sp d) (fun w => ht1 (cs_bad_t (Or.inr w))) (fun w => nm_r (nI_1 i) (hw () ?_)) rfl (cs_sep d hd)
    show (cs_qn (cs_sp d) X i || cs_bad (cs_sp d) (X i)) = false
    rw [h, cs_bad_f (by omega) w]
    rfl
theorem cs_wf58 {post : St2 → Prop} {d t m : Nat} {X : Nat → Nat} {q : Bool} {o r : List Nat} {a0 : Nat → Int32} (ho : o.length ≤ 96) (hd : d < 8) (ht : t < 30) (hm : m ≤ 6) (hX : ∀ i, X i < 10) (hf : cs_f a2 a3 t X m)
    (hW : cs_W o a0 kp pt a5 (cs_bs d X 0 m ++ (cs_q1 q ++ r))) (H : ∀ pt' a5', cs_W o a0 kp pt' a5' r → post (ct, dr, rw, pt', kp, st, gr, gf, gs, ff, rg, hl, fl, sd, a1, a2, a3, a4, a5')) :
    ∃ fu, wX_writeField_58 post (nI d) (nI t) (cs_b q) fu 0 ct dr rw pt kp st gr gf gs ff rg hl fl sd a1 a2 a3 a4 a5 := by
  have e2 : a2 (nI t).toNatClampNeg = nI m := by rw [nI_clamp (by omega)]; exact hf.1
  refine pk_loop (σ := Int32 × (Nat → Int32)) (fun n i s => wX_writeField_58 post (nI d) (nI t) (cs_b q) n (nI i) ct dr rw s.1 kp st gr gf gs ff rg hl fl sd a1 a2 a3 a4 s.2) (fun i s => cs_W o a0 kp s.1 s.2 (cs_bs d X i (m - i) ++ (cs_q1 q ++ r))) m 0 (pt, a5) (by omega) hW ?_ ?_
  · intro n s h
    rw [Nat.sub_self] at h
    refine ⟨pk_in t 30 ht, pk_le m m (fun _ => ?_) (fun z => absurd z (by omega)) e2⟩
    cases q with
    | false => exact br_t rfl (H _ _ h)
    | true => exact br_f (by decide) (cs_emit ho h (fun pt' a5' h' => H _ _ h'))
  · intro n i s hi h hw
    have hXi := hX i
    have e3 : a3 (nI t * 6 + nI i).toNatClampNeg = nI (X i) := by rw [cs_ix, nI_clamp (by omega)]; exact hf.2 i hi
    rw [show m - i = (m - (i + 1)) + 1 by omega, cs_bs_s] at h
    refine ⟨pk_in t 30 ht, pk_le m i (fun z => absurd z (by omega)) (fun _ => ⟨pk_in (t * 6 + i) 180 (by omega) (cs_ix t i), nm_r e3 ?_⟩) e2⟩
    refine pk_eq (X i) 7 (fun z => ?_) (fun z => ?_)
    · rw [cs_es_7 d z] at h
      refine pk_lt d 4 (fun w => ?_) (fun w => ?_)
      · rw [if_pos w] at h
        refine cs_emit ho h (fun pt' a5' h' => ?_)
        refine cs_emit (c := 7) ho h' (fun pt'' a5'' h'' => nm_r (nI_1 i) (hw (pt'', a5'') h'')) (by rw [z])
      · rw [if_neg (by omega)] at h
        refine cs_emit ho h (fun pt' a5' h' => ?_)
        refine cs_emit (c := 7) ho h' (fun pt'' a5'' h'' => nm_r (nI_1 i) (hw (pt'', a5'') h'')) (by rw [z])
    · rw [cs_es_n d z] at h
      exact cs_emit ho h (fun pt' a5' h' => nm_r (nI_1 i) (hw (pt', a5') h'))
theorem cs_wf42 {post : St2 → Prop} {d t m : Nat} {X : Nat → Nat} {o r : List Nat} {a0 : Nat → Int32} (q : Bool) (ho : o.length ≤ 96) (hd : d < 8) (ht : t < 30) (hm : m ≤ 6) (hX : ∀ i, X i < 10) (hf : cs_f a2 a3 t X m)
    (hW : cs_W o a0 kp pt a5 (cs_fo d X m q ++ r)) (H : ∀ pt' a5', cs_W o a0 kp pt' a5' r → post (ct, dr, rw, pt', kp, st, gr, gf, gs, ff, rg, hl, fl, sd, a1, a2, a3, a4, a5')) :
    wX_writeField_42 post (nI d) (nI t) (cs_b q) ct dr rw pt kp st gr gf gs ff rg hl fl sd a1 a2 a3 a4 a5 := by
  unfold cs_fo at hW
  rw [List.append_assoc, List.append_assoc] at hW
  cases q with
  | false => exact br_t rfl (cs_wf58 (q := false) ho hd ht hm hX hf hW H)
  | true => exact br_f (by decide) (cs_emit ho hW (fun pt' a5' h' => cs_wf58 (q := true) ho hd ht hm hX hf h' H))
theorem cs_wf {post : St2 → Prop} {d r f m fc : Nat} {X : Nat → Nat} {o rs : List Nat} {a0 : Nat → Int32} {q : Bool} (ho : o.length ≤ 96) (hd : d < 8) (hr : r < 6) (hff : f < 5) (hm : m ≤ 6) (hX : ∀ i, X i < 10) (hc : a1 r = nI fc) (hfc : fc < 6) (hf : cs_f a2 a3 (r * 5 + f) X m)
    (hq : q = (cs_qn (cs_sp d) X m || (decide (m = 0) && decide (fc = 1))))
    (hW : cs_W o a0 kp pt a5 (cs_fo d X m q ++ rs)) (H : ∀ pt' a5', cs_W o a0 kp pt' a5' rs → post (ct, dr, rw, pt', kp, st, gr, gf, gs, ff, rg, hl, fl, sd, a1, a2, a3, a4, a5')) :
    wpX_writeField post (ct, dr, rw, pt, kp, st, gr, gf, gs, ff, rg, hl, fl, sd, a1, a2, a3, a4, a5) (nI r) (nI f) (nI d) := by
  have ht : r * 5 + f < 30 := by omega
  have e2 : a2 (nI (r * 5 + f)).toNatClampNeg = nI m := by rw [nI_clamp (by omega)]; exact hf.1
  have e1 : a1 (nI r).toNatClampNeg = nI fc := by rw [nI_clamp (by omega)]; exact hc
  refine nm_r (cs_i5 r f) (cs_nq hd ht hm hX hf ?_)
  cases g : cs_qn (cs_sp d) X m with
  | true =>
    rw [g] at hq
    refine br_f (by decide) (cs_wf42 true ho hd ht hm hX hf ?_ H)
    rw [hq] at hW
    exact hW
  | false =>
    rw [g] at hq
    refine br_t rfl ⟨pk_in (r * 5 + f) 30 ht, pk_eq m 0 (fun z => ⟨pk_in r 6 hr, pk_eq fc 1 (fun w => ?_) (fun w => ?_) e1⟩) (fun z => ?_) e2⟩
    · refine cs_wf42 true ho hd ht hm hX hf ?_ H
      rw [decide_eq_true z, decide_eq_true w] at hq
      rw [hq] at hW
      exact hW
    · refine cs_wf42 false ho hd ht hm hX hf ?_ H
      rw [decide_eq_false w, Bool.and_false] at hq
      rw [hq] at hW
      exact hW
    · refine cs_wf42 false ho hd ht hm hX hf ?_ H
      rw [decide_eq_false z, Bool.false_and] at hq
      rw [hq] at hW
      exact hW
end
section
variable {ct dr rw pt kp st gr gf gs ff rg hl fl sd : Int32} {a1 a2 a3 a4 a5 : Nat → Int32}
/-- the end of a record is written -/
theorem cs_w23x {post : St2 → Prop} {J : Int32 → Int32 → Int32 → Int32 → Int32 → Int32 → Int32 → Int32 → Int32 → Int32 → Int32 → Int32 → Int32 → Int32 → Int32 → (Nat → Int32) → (Nat → Int32) → (Nat → Int32) → (Nat → Int32) → (Nat → Int32) → Prop} {d r k n : Nat} {o rs : List Nat} {a0 : Nat → Int32} (ho : o.length ≤ 96) (hd : d < 8) (hr : r < 6) (hk : k < 6) (hc : a1 r = nI k)
    (hW : cs_W o a0 kp pt a5 (cs_el d ++ rs)) (H : ∀ pt' a5', cs_W o a0 kp pt' a5' rs → J (nI (r + 1)) ct dr rw pt' kp st gr gf gs ff rg hl fl sd a1 a2 a3 a4 a5') :
    wX_writeAll_23 post J (nI d) (nI r) (n + 1) (nI k) ct dr rw pt kp st gr gf gs ff rg hl fl sd a1 a2 a3 a4 a5 := by
  have e1 : a1 (nI r).toNatClampNeg = nI k := by rw [nI_clamp (by omega)]; exact hc
  refine ⟨pk_in r 6 hr, pk_le k k (fun _ => ?_) (fun z => absurd z (by omega)) e1⟩
  unfold cs_el at hW
  refine ek_if (cs_bit2 d hd) (fun z => ?_) (fun z => ?_)
  · rw [if_pos z] at hW
    exact cs_emit ho hW (fun pt' a5' h' => cs_emit ho h' (fun pt'' a5'' h'' => nm_r (nI_1 r) (H pt'' a5'' h'')))
  · rw [if_neg z] at hW
    exact cs_emit ho hW (fun pt'' a5'' h'' => nm_r (nI_1 r) (H pt'' a5'' h''))
/-- the separator ahead of field f -/
def cs_s1 (d f : Nat) : List Nat := if f = 0 then [] else [cs_sp d]
/-- a field is written -/
theorem cs_w23f {post : St2 → Prop} {J : Int32 → Int32 → Int32 → Int32 → Int32 → Int32 → Int32 → Int32 → Int32 → Int32 → Int32 → Int32 → Int32 → Int32 → Int32 → (Nat → Int32) → (Nat → Int32) → (Nat → Int32) → (Nat → Int32) → (Nat → Int32) → Prop} {d r f m fc n : Nat} {X : Nat → Nat} {q : Bool} {o rs : List Nat} {a0 : Nat → Int32} (ho : o.length ≤ 96) (hd : d < 8) (hr : r < 6) (hff : f < fc) (hm : m ≤ 6) (hX : ∀ i, X i < 10) (hc : a1 r = nI fc) (hfc : fc < 6) (hf : cs_f a2 a3 (r * 5 + f) X m)
    (hq : q = (cs_qn (cs_sp d) X m || (decide (m = 0) && decide (fc = 1))))
    (hW : cs_W o a0 kp pt a5 (cs_s1 d f ++ (cs_fo d X m q ++ rs)))
    (H : ∀ pt' a5', cs_W o a0 kp pt' a5' rs → wX_writeAll_23 post J (nI d) (nI r) n (nI (f + 1)) ct dr rw pt' kp st gr gf gs ff rg hl fl sd a1 a2 a3 a4 a5') :
    wX_writeAll_23 post J (nI d) (nI r) (n + 1) (nI f) ct dr rw pt kp st gr gf gs ff rg hl fl sd a1 a2 a3 a4 a5 := by
  have e1 : a1 (nI r).toNatClampNeg = nI fc := by rw [nI_clamp (by omega)]; exact hc
  refine ⟨pk_in r 6 hr, pk_le fc f (fun z => absurd z (by omega)) (fun _ => ?_) e1⟩
  unfold cs_s1 at hW
  refine pk_le f 0 (fun z => ?_) (fun z => ?_)
  · rw [if_pos (by omega)] at hW
    exact cs_wf (q := q) ho hd hr (by omega) hm hX hc hfc hf hq hW (fun pt' a5' h' => nm_r (nI_1 f) (H pt' a5' h'))
  · rw [if_neg (by omega)] at hW
    unfold wpX_separator
    refine cs_emit ho hW (fun pt' a5' h' => ?_) (cs_sep d hd)
    exact cs_wf (q := q) ho hd hr (by omega) hm hX hc hfc hf hq h' (fun pt' a5' h' => nm_r (nI_1 f) (H pt' a5' h'))
theorem cs_qz (b : Bool) (m fc : Nat) (h : fc ≠ 1) : b = (b || (decide (m = 0) && decide (fc = 1))) := by
  rw [decide_eq_false h, Bool.and_false, Bool.or_false]
theorem cs_all {post : St2 → Prop} {d m k : Nat} {X Y : Nat → Nat} {p : Int32} (hd : d < 8) (hm : m < 4) (hk : k < 4) (hX : ∀ i, X i < 10) (hY : ∀ i, Y i < 10) (hp : p = 0 ∨ p = 1) (hT : cs_T X m Y k a1 a2 a3)
    (H : ∀ a5', (p = 0 → a5' = a5) → (¬ p = 0 → cs_H (cs_out d X m Y k) a5') → post (nI 2, dr, rw, nI (cs_out d X m Y k).length, p, st, gr, gf, gs, ff, rg, hl, fl, sd, a1, a2, a3, a4, a5')) :
    wpX_writeAll post (nI 2, dr, rw, pt, kp, st, gr, gf, gs, ff, rg, hl, fl, sd, a1, a2, a3, a4, a5) (nI d) p := by
  have ho := cs_out_len d X m Y k hm hk
  obtain ⟨t1, t2, t3, t4, t5⟩ := hT
  refine ⟨by rcases hp with h | h <;> rw [h] <;> rfl, by rcases hp with h | h <;> rw [h] <;> rfl, 3, ?_⟩
  refine pk_le 2 0 (fun z => absurd z (by omega)) (fun _ => ⟨3, ?_⟩)
  refine cs_w23f (r := 0) (f := 0) (fc := 2) (m := m) (X := X) (q := cs_qn (cs_sp d) X m) (o := cs_out d X m Y k) (a0 := a5) ho hd (by omega) (by omega) (by omega) hX t1 (by omega) t3 (cs_qz _ _ _ (by omega)) (cs_W0 _ _ _) (fun pt1 b1 h1 => ?_)
  refine cs_w23f (r := 0) (f := 1) (fc := 2) (m := k) (X := Y) (q := cs_qn (cs_sp d) Y k) ho hd (by omega) (by omega) (by omega) hY t1 (by omega) t4 (cs_qz _ _ _ (by omega)) h1 (fun pt2 b2 h2 => ?_)
  refine cs_w23x (r := 0) (k := 2) ho hd (by omega) (by omega) t1 h2 (fun pt3 b3 h3 => ?_)
  refine pk_le 2 1 (fun z => absurd z (by omega)) (fun _ => ⟨2, ?_⟩)
  refine cs_w23f (r := 1) (f := 0) (fc := 1) (m := 0) (X := X) (q := true) ho hd (by omega) (by omega) (by omega) hX t2 (by omega) t5 rfl h3 (fun pt4 b4 h4 => ?_)
  refine cs_w23x (r := 1) (k := 1) ho hd (by omega) (by omega) t2 h4 (fun pt5 b5 h5 => ?_)
  obtain ⟨g1, g2, g3⟩ := cs_Wend h5
  subst g1
  exact pk_le 2 2 (fun _ => H b5 g2 g3) (fun z => absurd z (by omega))
theorem cs_bd {post : Int32 → Prop} {d : Nat} (hd : d < 8) (H : post 0) : wpX_badDialect post (ct, dr, rw, pt, kp, st, gr, gf, gs, ff, rg, hl, fl, sd, a1, a2, a3, a4, a5) (nI d) :=
  pk_lt d 0 (fun z => absurd z (by omega)) (fun _ => pk_le d 7 (fun _ => H) (fun z => absurd z (by omega)))
theorem cs_write {post : Int32 → St2 → Prop} {d m k : Nat} {X Y : Nat → Nat} (hd : d < 8) (hm : m < 4) (hk : k < 4) (hX : ∀ i, X i < 10) (hY : ∀ i, Y i < 10) (hT : cs_T X m Y k a1 a2 a3)
    (H : ∀ a5', cs_H (cs_out d X m Y k) a5' → post (nI (cs_out d X m Y k).length) (nI 2, dr, nI (cs_out d X m Y k).length, nI (cs_out d X m Y k).length, 1, st, gr, gf, gs, ff, rg, hl, fl, sd, a1, a2, a3, a4, a5')) :
    wpX_write post (nI 2, dr, rw, pt, kp, st, gr, gf, gs, ff, rg, hl, fl, sd, a1, a2, a3, a4, a5) (nI d) := by
  have ho := cs_out_len d X m Y k hm hk
  unfold wpX_write
  dsimp only
  refine cs_bd hd ?_
  refine br_t rfl (cs_all hd hm hk hX hY (Or.inl rfl) hT (fun b1 _ _ => ?_))
  refine pk_le (cs_out d X m Y k).length 96 (fun _ => ?_) (fun z => absurd z (by omega))
  exact cs_all hd hm hk hX hY (Or.inr rfl) hT (fun b2 _ g => H b2 (g (by decide)))
theorem cs_written {post : Int32 → St2 → Prop} {d m k : Nat} {X Y : Nat → Nat} (hd : d < 8) (hm : m < 4) (hk : k < 4) (hX : ∀ i, X i < 10) (hY : ∀ i, Y i < 10) (hT : cs_T X m Y k a1 a2 a3)
    (H : post (nI (cs_out d X m Y k).length) (nI 2, dr, rw, nI (cs_out d X m Y k).length, 0, st, gr, gf, gs, ff, rg, hl, fl, sd, a1, a2, a3, a4, a5)) :
    wpX_written post (nI 2, dr, rw, pt, kp, st, gr, gf, gs, ff, rg, hl, fl, sd, a1, a2, a3, a4, a5) (nI d) := by
  unfold wpX_written
  dsimp only
  refine cs_bd hd ?_
  refine br_t rfl (cs_all hd hm hk hX hY (Or.inl rfl) hT (fun b1 g _ => ?_))
  have e := g rfl
  subst e
  exact H
end
section
variable {ct dr rw pt kp st gr gf gs ff rg hl fl sd : Int32} {a1 a2 a3 a4 a5 : Nat → Int32}
/-- what the reader's loop does behind a step -/
def cs_K (post : Int32 → St2 → Prop) (x1 : Int32) (n : Nat) (x3 : Int32) : St2 → Prop := fun u => match u with
  | (ct, dr, rw, pt, kp, st, gr, gf, gs, ff, rg, hl, fl, sd, a1, a2, a3, a4, a5) => ((st = 7 → (∀ y : Int32, y = x3 + 1 → (wX_readAll_47 post x1 n y ct dr rw pt kp st gr gf gs ff rg hl fl sd a1 a2 a3 a4 a5))) ∧ (¬ st = 7 → (∀ z : Int32, z = x3 + 1 → (∀ y : Int32, y = x3 + 1 → (wX_readAll_47 post x1 n y ct dr rw pt kp st gr gf gs ff rg hl fl z a1 a2 a3 a4 a5)))))
theorem cs_Kf {post : Int32 → St2 → Prop} {x1 x x' : Int32} {n : Nat} (hs : ¬ st = 7) (hx : x + 1 = x') (h : wX_readAll_47 post x1 n x' ct dr rw pt kp st gr gf gs ff rg hl fl x' a1 a2 a3 a4 a5) : cs_K post x1 n x (ct, dr, rw, pt, kp, st, gr, gf, gs, ff, rg, hl, fl, sd, a1, a2, a3, a4, a5) :=
  br_f hs (nm_r hx (nm_r hx h))
theorem cs_go {post : Int32 → St2 → Prop} {d c : Nat} {o r : List Nat} {x : Int32} (ho : o.length ≤ 96) (hH : cs_H o a5) (hq : cs_Q o x (c :: r)) (hs : ¬ st = 7)
    (h : ∀ n x', r.length < n → cs_Q o x' r → x + 1 = x' → wpX_step (cs_K post (nI d) n x) (ct, dr, nI o.length, pt, kp, st, gr, gf, gs, ff, rg, hl, fl, sd, a1, a2, a3, a4, a5) (nI c) (nI d)) : (∀ n, (c :: r).length < n → wX_readAll_47 post (nI d) n x ct dr (nI o.length) pt kp st gr gf gs ff rg hl fl sd a1 a2 a3 a4 a5) := by
  intro n hn
  obtain ⟨k, h1, h2, h3⟩ := hq
  obtain ⟨g1, g2, g3⟩ := cs_dr h3
  subst h2
  rw [List.length_cons] at h1 hn
  cases n with
  | zero => exact absurd hn (by omega)
  | succ n =>
    have e : a5 (nI k).toNatClampNeg = nI c := by rw [nI_clamp (by omega), hH k g1, g2]
    refine pk_le o.length k (fun z => absurd z (by omega)) (fun _ => br_f hs ⟨pk_in k 96 (by omega), ?_⟩)
    rw [e]
    exact h n (nI (k + 1)) (by omega) ⟨k + 1, by omega, rfl, g3⟩ (nI_1 k)
/-- the table while it is read: as it was (fl = 0), or G holds -/
def cs_A (fl : Int32) (b1 b2 b3 : Nat → Int32) (G : (Nat → Int32) → (Nat → Int32) → (Nat → Int32) → Prop) (a1 a2 a3 : Nat → Int32) : Prop :=
  (fl = 0 → a1 = b1 ∧ a2 = b2 ∧ a3 = b3) ∧ (¬ fl = 0 → G a1 a2 a3)
/-- and place t holds s characters of X so far -/
def cs_B (fl : Int32) (b1 b2 b3 : Nat → Int32) (G : (Nat → Int32) → (Nat → Int32) → (Nat → Int32) → Prop) (t : Nat) (X : Nat → Nat) (s : Nat) (a1 a2 a3 : Nat → Int32) : Prop :=
  cs_A fl b1 b2 b3 (fun c1 c2 c3 => G c1 c2 c3 ∧ cs_f c2 c3 t X s) a1 a2 a3
/-- G says nothing of place t -/
def cs_G (t : Nat) (G : (Nat → Int32) → (Nat → Int32) → (Nat → Int32) → Prop) : Prop :=
  ∀ c1 c2 c3 v w i, i < 6 → G c1 c2 c3 → G c1 (upd c2 t v) (upd c3 (t * 6 + i) w)
theorem cs_take {post : St2 → Prop} {g f s : Nat} {X : Nat → Nat} {G : (Nat → Int32) → (Nat → Int32) → (Nat → Int32) → Prop} {b1 b2 b3 : Nat → Int32} {x : Int32} (hg : g < 6) (hf : f < 5) (hs : s < 6) (hG : cs_G (g * 5 + f) G)
    (hB : cs_B fl b1 b2 b3 G (g * 5 + f) X s a1 a2 a3) (H : ∀ a2' a3', cs_B fl b1 b2 b3 G (g * 5 + f) X (s + 1) a1 a2' a3' → post (ct, dr, rw, pt, kp, st, nI g, nI (f + 1), nI (s + 1), ff, rg, 1, fl, sd, a1, a2', a3', a4, a5)) (hx : x = nI (X s)) :
    wpX_take post (ct, dr, rw, pt, kp, st, nI g, nI (f + 1), nI s, ff, rg, 1, fl, sd, a1, a2, a3, a4, a5) x := by
  subst hx
  refine nm_r (nI_1 s) (pk_le (s + 1) 6 (fun _ => ?_) (fun z => absurd z (by omega)))
  refine br_c (fun z => H a2 a3 ⟨fun _ => hB.1 z, fun w => absurd z w⟩) (fun z => br_f (by decide) (nm_r (cs_i51 g f) ⟨pk_in ((g * 5 + f) * 6 + s) 180 (by omega) (cs_i61 _ _), ?_⟩))
  refine nm_r (e' := upd a3 ((g * 5 + f) * 6 + s) (nI (X s))) (by rw [cs_i61, nI_clamp (by omega)]) ⟨pk_in (g * 5 + f) 30 (by omega), ?_⟩
  refine nm_r (e' := upd a2 (g * 5 + f) (nI (s + 1))) (by rw [nI_clamp (by omega)]) (H _ _ ⟨fun w => absurd w z, fun _ => ?_⟩)
  obtain ⟨h1, h2, h3⟩ := hB.2 z
  refine ⟨hG _ _ _ _ _ s hs h1, pk_us, fun i hi => ?_⟩
  by_cases e : i = s
  · rw [e, pk_us]
  · rw [pk_un (by omega)]
    exact h3 i (by omega)
theorem cs_sf {post : St2 → Prop} {g f : Nat} {X : Nat → Nat} {G' G : (Nat → Int32) → (Nat → Int32) → (Nat → Int32) → Prop} {b1 b2 b3 : Nat → Int32} (hg : g < 6) (hf : f < 5)
    (hG : ∀ c1 c2 c3, G' c1 c2 c3 → G (upd c1 g (nI (f + 1))) (upd c2 (g * 5 + f) (nI 0)) c3)
    (hB : cs_A fl b1 b2 b3 G' a1 a2 a3) (H : ∀ a1' a2', cs_B fl b1 b2 b3 G (g * 5 + f) X 0 a1' a2' a3 → post (ct, dr, rw, pt, kp, st, nI g, nI (f + 1), nI 0, ff, rg, 1, fl, sd, a1', a2', a3, a4, a5)) :
    wpX_startField post (ct, dr, rw, pt, kp, st, nI g, nI f, gs, ff, rg, 1, fl, sd, a1, a2, a3, a4, a5) := by
  refine nm_r (nI_1 f) (pk_le (f + 1) 5 (fun _ => ?_) (fun z => absurd z (by omega)))
  refine br_c (fun z => H a1 a2 ⟨fun _ => hB.1 z, fun w => absurd z w⟩) (fun z => br_f (by decide) ⟨pk_in g 6 hg, ?_⟩)
  refine nm_r (e' := upd a1 g (nI (f + 1))) (by rw [nI_clamp (by omega)]) ⟨pk_in (g * 5 + f) 30 (by omega) (cs_i51 g f), ?_⟩
  refine nm_r (e' := upd a2 (g * 5 + f) (nI 0)) (by rw [cs_i51, nI_clamp (by omega)]; rfl) (H _ _ ⟨fun w => absurd w z, fun _ => ⟨hG _ _ _ (hB.2 z), pk_us, lt_0⟩⟩)
/-- the steps -/
theorem cs_rt {post : St2 → Prop} {c d : Nat} (hd : d < 8) (hst : st = 1 ∨ st = 2 ∨ st = 4) (hc : ¬ c = 7) (hc2 : c < 11) (hk : 7 ≤ c ∨ c = cs_sp d) (h : wX_step_191 post (nI c) (nI d) ct dr rw pt kp st gr gf gs ff rg hl fl sd a1 a2 a3 a4 a5) :
    wpX_step post (ct, dr, rw, pt, kp, st, gr, gf, gs, ff, rg, hl, fl, sd, a1, a2, a3, a4, a5) (nI c) (nI d) := by
  have hsp := cs_sp_le d
  have e155 : wX_step_155 post (nI c) (nI d) ct dr rw pt kp st gr gf gs ff rg hl fl sd a1 a2 a3 a4 a5 := by
    refine br_c (fun _ => h) (fun _ => pk_le 7 c (fun _ => h) (fun z => ?_))
    exact pk_eq c (cs_sp d) (fun _ => h) (fun w => absurd hk (by omega)) rfl (cs_sep d hd)
  have e70 : wX_step_70 post (nI c) (nI d) ct dr rw pt kp st gr gf gs ff rg hl fl sd a1 a2 a3 a4 a5 :=
    br_f (by rcases hst with h | h | h <;> rw [h] <;> decide) (br_f (by rcases hst with h | h | h <;> rw [h] <;> decide) (br_c (fun _ => pk_eq c 7 (fun z => absurd z hc) (fun _ => e155)) (fun _ => e155)))
  have e16 : wX_step_16 post (nI c) (nI d) ct dr rw pt kp st gr gf gs ff rg hl fl sd a1 a2 a3 a4 a5 :=
    br_f (by rcases hst with h | h | h <;> rw [h] <;> decide) (br_c (fun _ => pk_eq c 7 (fun z => absurd z hc) (fun _ => e70)) (fun _ => e70))
  exact br_f (by rcases hst with h | h | h <;> rw [h] <;> decide) e16
theorem cs_r3 {post : Int32 → St2 → Prop} {d c g f s : Nat} {X : Nat → Nat} {G : (Nat → Int32) → (Nat → Int32) → (Nat → Int32) → Prop} {b1 b2 b3 : Nat → Int32} {o r : List Nat} {x : Int32} (ho : o.length ≤ 96) (hH : cs_H o a5) (hg : g < 6) (hf : f < 5) (hs : s < 6) (hG : cs_G (g * 5 + f) G)
    (hB : cs_B fl b1 b2 b3 G (g * 5 + f) X s a1 a2 a3) (hc : X s = c) (h7 : ¬ c = 7) (h10 : c < 10) (hq : cs_Q o x (c :: r))
    (H : ∀ x' a2' a3', cs_Q o x' r → cs_B fl b1 b2 b3 G (g * 5 + f) X (s + 1) a1 a2' a3' → (∀ n, (r).length < n → wX_readAll_47 post (nI d) n x' ct dr (nI o.length) pt kp 3 (nI g) (nI (f + 1)) (nI (s + 1)) ff rg 1 fl x' a1 a2' a3' a4 a5)) :
    (∀ n, (c :: r).length < n → wX_readAll_47 post (nI d) n x ct dr (nI o.length) pt kp 3 (nI g) (nI (f + 1)) (nI s) ff rg 1 fl sd a1 a2 a3 a4 a5) := by
  refine cs_go ho hH hq (by decide) (fun n x' hn hq' hx => ?_)
  refine br_f (by decide) (br_t rfl ?_)
  refine pk_eq c 7 (fun z => absurd z h7) (fun _ => pk_eq c 10 (fun z => absurd z (by omega)) (fun _ => ?_))
  refine cs_take hg hf hs hG hB (fun a2' a3' hB' => ?_) (by rw [hc])
  exact cs_Kf (by decide) hx (H x' a2' a3' hq' hB' n hn)
theorem cs_r37 {post : Int32 → St2 → Prop} {d : Nat} {o r : List Nat} {x : Int32} (ho : o.length ≤ 96) (hH : cs_H o a5) (hq : cs_Q o x (7 :: r))
    (H : ∀ x', cs_Q o x' r → (∀ n, (r).length < n → wX_readAll_47 post (nI d) n x' ct dr (nI o.length) pt kp 4 gr gf gs ff rg hl fl x' a1 a2 a3 a4 a5)) :
    (∀ n, (7 :: r).length < n → wX_readAll_47 post (nI d) n x ct dr (nI o.length) pt kp 3 gr gf gs ff rg hl fl sd a1 a2 a3 a4 a5) := by
  refine cs_go ho hH hq (by decide) (fun n x' hn hq' hx => ?_)
  refine br_f (by decide) (br_t rfl (br_t rfl ?_))
  exact cs_Kf (by decide) hx (H x' hq' n hn)
theorem cs_r3e {post : Int32 → St2 → Prop} {d : Nat} {o r : List Nat} {x : Int32} (hd : d < 8) (h4 : 4 ≤ d) (ho : o.length ≤ 96) (hH : cs_H o a5) (hq : cs_Q o x (10 :: r))
    (H : ∀ x', cs_Q o x' r → (∀ n, (r).length < n → wX_readAll_47 post (nI d) n x' ct dr (nI o.length) pt kp 5 gr gf gs ff rg hl fl x' a1 a2 a3 a4 a5)) :
    (∀ n, (10 :: r).length < n → wX_readAll_47 post (nI d) n x ct dr (nI o.length) pt kp 3 gr gf gs ff rg hl fl sd a1 a2 a3 a4 a5) := by
  refine cs_go ho hH hq (by decide) (fun n x' hn hq' hx => ?_)
  refine br_f (by decide) (br_t rfl (br_f (by decide) (br_t rfl ?_)))
  exact pk_lt d 4 (fun z => absurd z (by omega)) (fun _ => cs_Kf (by decide) hx (H x' hq' n hn))
theorem cs_r47 {post : Int32 → St2 → Prop} {d g f s : Nat} {X : Nat → Nat} {G : (Nat → Int32) → (Nat → Int32) → (Nat → Int32) → Prop} {b1 b2 b3 : Nat → Int32} {o r : List Nat} {x : Int32} (h4 : d < 4) (ho : o.length ≤ 96) (hH : cs_H o a5) (hg : g < 6) (hf : f < 5) (hs : s < 6) (hG : cs_G (g * 5 + f) G)
    (hB : cs_B fl b1 b2 b3 G (g * 5 + f) X s a1 a2 a3) (hc : X s = 7) (hq : cs_Q o x (7 :: r))
    (H : ∀ x' a2' a3', cs_Q o x' r → cs_B fl b1 b2 b3 G (g * 5 + f) X (s + 1) a1 a2' a3' → (∀ n, (r).length < n → wX_readAll_47 post (nI d) n x' ct dr (nI o.length) pt kp 3 (nI g) (nI (f + 1)) (nI (s + 1)) ff rg 1 fl x' a1 a2' a3' a4 a5)) :
    (∀ n, (7 :: r).length < n → wX_readAll_47 post (nI d) n x ct dr (nI o.length) pt kp 4 (nI g) (nI (f + 1)) (nI s) ff rg 1 fl sd a1 a2 a3 a4 a5) := by
  refine cs_go ho hH hq (by decide) (fun n x' hn hq' hx => ?_)
  refine br_f (by decide) (br_f (by decide) (br_t rfl (br_t rfl ?_)))
  refine pk_le 4 d (fun z => absurd z (by omega)) (fun _ => ?_)
  refine cs_take hg hf hs hG hB (fun a2' a3' hB' => ?_) (by rw [hc])
  exact cs_Kf (by decide) hx (H x' a2' a3' hq' hB' n hn)
theorem cs_r57 {post : Int32 → St2 → Prop} {d g f s : Nat} {X : Nat → Nat} {G : (Nat → Int32) → (Nat → Int32) → (Nat → Int32) → Prop} {b1 b2 b3 : Nat → Int32} {o r : List Nat} {x : Int32} (ho : o.length ≤ 96) (hH : cs_H o a5) (hg : g < 6) (hf : f < 5) (hs : s < 6) (hG : cs_G (g * 5 + f) G)
    (hB : cs_B fl b1 b2 b3 G (g * 5 + f) X s a1 a2 a3) (hc : X s = 7) (hq : cs_Q o x (7 :: r))
    (H : ∀ x' a2' a3', cs_Q o x' r → cs_B fl b1 b2 b3 G (g * 5 + f) X (s + 1) a1 a2' a3' → (∀ n, (r).length < n → wX_readAll_47 post (nI d) n x' ct dr (nI o.length) pt kp 3 (nI g) (nI (f + 1)) (nI (s + 1)) ff rg 1 fl x' a1 a2' a3' a4 a5)) :
    (∀ n, (7 :: r).length < n → wX_readAll_47 post (nI d) n x ct dr (nI o.length) pt kp 5 (nI g) (nI (f + 1)) (nI s) ff rg 1 fl sd a1 a2 a3 a4 a5) := by
  refine cs_go ho hH hq (by decide) (fun n x' hn hq' hx => ?_)
  refine br_f (by decide) (br_f (by decide) (br_f (by decide) (br_t rfl (br_t rfl ?_))))
  refine cs_take hg hf hs hG hB (fun a2' a3' hB' => ?_) (by rw [hc])
  exact cs_Kf (by decide) hx (H x' a2' a3' hq' hB' n hn)
theorem cs_r17 {post : Int32 → St2 → Prop} {d : Nat} {o r : List Nat} {x : Int32} (ho : o.length ≤ 96) (hH : cs_H o a5) (hq : cs_Q o x (7 :: r))
    (H : ∀ x', cs_Q o x' r → (∀ n, (r).length < n → wX_readAll_47 post (nI d) n x' ct dr (nI o.length) pt kp 3 gr gf gs ff rg hl fl x' a1 a2 a3 a4 a5)) :
    (∀ n, (7 :: r).length < n → wX_readAll_47 post (nI d) n x ct dr (nI o.length) pt kp 1 gr gf gs ff rg hl fl sd a1 a2 a3 a4 a5) := by
  refine cs_go ho hH hq (by decide) (fun n x' hn hq' hx => ?_)
  refine br_f (by decide) (br_f (by decide) (br_f (by decide) (br_f (by decide) (br_f (by decide) (br_t rfl (br_t rfl ?_))))))
  exact cs_Kf (by decide) hx (H x' hq' n hn)
theorem cs_rpl {post : Int32 → St2 → Prop} {d c g f s : Nat} {X : Nat → Nat} {G : (Nat → Int32) → (Nat → Int32) → (Nat → Int32) → Prop} {b1 b2 b3 : Nat → Int32} {o r : List Nat} {x : Int32} (hd : d < 8) (ho : o.length ≤ 96) (hH : cs_H o a5) (hg : g < 6) (hf : f < 5) (hs : s < 6) (hG : cs_G (g * 5 + f) G) (hst : st = 1 ∨ st = 2)
    (hB : cs_B fl b1 b2 b3 G (g * 5 + f) X s a1 a2 a3) (hc : X s = c) (h7 : c < 7) (hsp : c ≠ cs_sp d) (hq : cs_Q o x (c :: r))
    (H : ∀ x' a2' a3', cs_Q o x' r → cs_B fl b1 b2 b3 G (g * 5 + f) X (s + 1) a1 a2' a3' → (∀ n, (r).length < n → wX_readAll_47 post (nI d) n x' ct dr (nI o.length) pt kp 2 (nI g) (nI (f + 1)) (nI (s + 1)) ff rg 1 fl x' a1 a2' a3' a4 a5)) :
    (∀ n, (c :: r).length < n → wX_readAll_47 post (nI d) n x ct dr (nI o.length) pt kp st (nI g) (nI (f + 1)) (nI s) ff rg 1 fl sd a1 a2 a3 a4 a5) := by
  have hsp2 := cs_sp_le d
  refine cs_go ho hH hq (by rcases hst with h | h <;> rw [h] <;> decide) (fun n x' hn hq' hx => ?_)
  have e155 : wX_step_155 (cs_K post (nI d) n x) (nI c) (nI d) ct dr (nI o.length) pt kp st (nI g) (nI (f + 1)) (nI s) ff rg 1 fl sd a1 a2 a3 a4 a5 := by
    refine br_f (by rcases hst with h | h <;> rw [h] <;> decide) (pk_le 7 c (fun z => absurd z (by omega)) (fun _ => ?_))
    refine pk_eq c (cs_sp d) (fun w => absurd w hsp) (fun _ => ?_) rfl (cs_sep d hd)
    refine cs_take hg hf hs hG hB (fun a2' a3' hB' => ?_) (by rw [hc])
    exact cs_Kf (by decide) hx (H x' a2' a3' hq' hB' n hn)
  refine br_f (by rcases hst with h | h <;> rw [h] <;> decide) (br_f (by rcases hst with h | h <;> rw [h] <;> decide) (br_f (by rcases hst with h | h <;> rw [h] <;> decide) ?_))
  refine br_f (by rcases hst with h | h <;> rw [h] <;> decide) (br_f (by rcases hst with h | h <;> rw [h] <;> decide) ?_)
  exact br_c (fun _ => pk_eq c 7 (fun z => absurd z (by omega)) (fun _ => e155)) (fun _ => e155)
end
section
variable {ct dr rw pt kp st gr gf gs ff rg hl fl sd : Int32} {a1 a2 a3 a4 a5 : Nat → Int32}
/-- a separator -/
theorem cs_rsep {post : Int32 → St2 → Prop} {d g f : Nat} {X : Nat → Nat} {G' G : (Nat → Int32) → (Nat → Int32) → (Nat → Int32) → Prop} {b1 b2 b3 : Nat → Int32} {o r : List Nat} {x : Int32} (hd : d < 8) (ho : o.length ≤ 96) (hH : cs_H o a5) (hg : g < 6) (hf : f < 5) (hst : st = 1 ∨ st = 2 ∨ st = 4)
    (hG : ∀ c1 c2 c3, G' c1 c2 c3 → G (upd c1 g (nI (f + 1))) (upd c2 (g * 5 + f) (nI 0)) c3)
    (hB : cs_A fl b1 b2 b3 G' a1 a2 a3) (hq : cs_Q o x (cs_sp d :: r))
    (H : ∀ x' a1' a2', cs_Q o x' r → cs_B fl b1 b2 b3 G (g * 5 + f) X 0 a1' a2' a3 → (∀ n, (r).length < n → wX_readAll_47 post (nI d) n x' ct dr (nI o.length) pt kp 1 (nI g) (nI (f + 1)) (nI 0) ff rg 1 fl x' a1' a2' a3 a4 a5)) :
    (∀ n, (cs_sp d :: r).length < n → wX_readAll_47 post (nI d) n x ct dr (nI o.length) pt kp st (nI g) (nI f) gs ff rg 1 fl sd a1 a2 a3 a4 a5) := by
  have hsp := cs_sp_le d
  refine cs_go ho hH hq (by rcases hst with h | h | h <;> rw [h] <;> decide) (fun n x' hn hq' hx => ?_)
  refine cs_rt hd hst (by omega) (by omega) (Or.inr rfl) ?_
  refine pk_eq (cs_sp d) (cs_sp d) (fun _ => ?_) (fun w => absurd rfl w) rfl (cs_sep d hd)
  refine cs_sf (X := X) hg hf hG hB (fun a1' a2' hB' => ?_)
  exact cs_Kf (by decide) hx (H x' a1' a2' hq' hB' n hn)
/-- a record begins -/
theorem cs_open {post : Int32 → St2 → Prop} {x1 x : Int32} {n : Nat} (h : wX_readAll_47 post x1 (n + 1) x ct dr rw pt kp st gr gf gs ff rg hl fl sd a1 a2 a3 a4 a5) (h1 : ¬ rw ≤ x) (h2 : ¬ st = 7) : wpX_step (cs_K post x1 n x) (ct, dr, rw, pt, kp, st, gr, gf, gs, ff, rg, hl, fl, sd, a1, a2, a3, a4, a5) (a5 x.toNatClampNeg) x1 :=
  ((And.right h h1).2 h2).2
theorem cs_16 {post : St2 → Prop} {c d : Int32} (h : wpX_step post (ct, dr, rw, pt, kp, st, gr, gf, gs, ff, rg, hl, fl, sd, a1, a2, a3, a4, a5) c d) (h0 : ¬ st = 0) : wX_step_16 post c d ct dr rw pt kp st gr gf gs ff rg hl fl sd a1 a2 a3 a4 a5 := And.right h h0
theorem cs_fresh {post : Int32 → St2 → Prop} {d c g : Nat} {X : Nat → Nat} {G' G : (Nat → Int32) → (Nat → Int32) → (Nat → Int32) → Prop} {b1 b2 b3 : Nat → Int32} {o r : List Nat} {x : Int32} (ho : o.length ≤ 96) (hg : g < 6)
    (hG : ∀ c1 c2 c3, G' c1 c2 c3 → G (upd c1 g (nI (0 + 1))) (upd c2 (g * 5 + 0) (nI 0)) c3)
    (hB : cs_A fl b1 b2 b3 G' a1 a2 a3) (hq : cs_Q o x (c :: r))
    (H : ∀ a1' a2', cs_B fl b1 b2 b3 G (g * 5 + 0) X 0 a1' a2' a3 → (∀ n, (c :: r).length < n → wX_readAll_47 post (nI d) n x ct dr (nI o.length) pt kp 1 (nI g) (nI (0 + 1)) (nI 0) ff rg 1 fl sd a1' a2' a3 a4 a5)) :
    (∀ n, (c :: r).length < n → wX_readAll_47 post (nI d) n x ct dr (nI o.length) pt kp 0 (nI g) gf gs ff rg 1 fl sd a1 a2 a3 a4 a5) := by
  intro n hn
  obtain ⟨k, h1, h2, h3⟩ := hq
  obtain ⟨g1, g2, g3⟩ := cs_dr h3
  subst h2
  rw [List.length_cons] at h1
  cases n with
  | zero => exact absurd hn (by omega)
  | succ n =>
    refine pk_le o.length k (fun z => absurd z (by omega)) (fun hlt => br_f (by decide) ⟨pk_in k 96 (by omega), ?_⟩)
    refine br_t rfl ?_
    refine pk_lt g 6 (fun _ => ?_) (fun z => absurd z (by omega))
    refine cs_sf (f := 0) (X := X) hg (by omega) hG hB (fun a1' a2' hB' => ?_)
    exact cs_16 (cs_open (H a1' a2' hB' (n + 1) hn) (nI_ge hlt (by omega)) (by decide)) (by decide)
/-- the end of a record -/
theorem cs_reol {post : Int32 → St2 → Prop} {d : Nat} {o r : List Nat} {x gr' ff' rg' : Int32} (hd : d < 8) (ho : o.length ≤ 96) (hH : cs_H o a5) (hst : st = 1 ∨ st = 2 ∨ st = 4)
    (hE : ∀ (P : St2 → Prop) (s' sd' : Int32), P (ct, dr, nI o.length, pt, kp, 0, gr', gf, gs, ff', rg', hl, fl, sd', a1, a2, a3, a4, a5) → wpX_endRecord P (ct, dr, nI o.length, pt, kp, s', gr, gf, gs, ff, rg, hl, fl, sd', a1, a2, a3, a4, a5))
    (hq : cs_Q o x (cs_el d ++ r)) (H : ∀ x', cs_Q o x' r → (∀ n, (r).length < n → wX_readAll_47 post (nI d) n x' ct dr (nI o.length) pt kp 0 gr' gf gs ff' rg' hl fl x' a1 a2 a3 a4 a5)) :
    (∀ n, (cs_el d ++ r).length < n → wX_readAll_47 post (nI d) n x ct dr (nI o.length) pt kp st gr gf gs ff rg hl fl sd a1 a2 a3 a4 a5) := by
  have hsp := cs_sp_le d
  have hne : ¬ st = 7 := by rcases hst with h | h | h <;> rw [h] <;> decide
  by_cases hb : d / 2 % 2 = 0
  · have e : cs_el d = [8, 9] := by unfold cs_el; rw [if_pos hb]
    rw [e] at hq ⊢
    refine cs_go ho hH hq hne (fun n x' hn hq' hx => ?_)
    refine cs_rt hd hst (by omega) (by omega) (Or.inl (by omega)) ?_
    refine pk_eq 8 (cs_sp d) (fun z => absurd z (by omega)) (fun _ => ?_) rfl (cs_sep d hd)
    refine br_f (by decide) (br_t rfl (br_t ((cs_bit2 d hd).mpr hb) ?_))
    refine cs_Kf (by decide) hx ?_
    refine cs_go ho hH hq' (by decide) (fun n' x'' hn' hq'' hx' => ?_) n hn
    refine br_f (by decide) (br_f (by decide) (br_f (by decide) (br_f (by decide) (br_t rfl (br_t rfl ?_)))))
    refine hE _ _ _ ?_
    exact cs_Kf (by decide) hx' (H x'' hq'' n' hn')
  · have e : cs_el d = [9] := by unfold cs_el; rw [if_neg hb]
    rw [e] at hq ⊢
    refine cs_go ho hH hq hne (fun n x' hn hq' hx => ?_)
    refine cs_rt hd hst (by omega) (by omega) (Or.inl (by omega)) ?_
    refine pk_eq 9 (cs_sp d) (fun z => absurd z (by omega)) (fun _ => ?_) rfl (cs_sep d hd)
    refine br_t rfl (br_f (fun z => hb ((cs_bit2 d hd).mp z)) ?_)
    refine hE _ _ _ ?_
    exact cs_Kf (by decide) hx (H x' hq' n hn)
theorem cs_er0 (P : St2 → Prop) (h : P (ct, dr, rw, pt, kp, 0, nI 1, gf, gs, gf, rg, hl, fl, sd, a1, a2, a3, a4, a5)) : wpX_endRecord P (ct, dr, rw, pt, kp, st, nI 0, gf, gs, ff, rg, hl, fl, sd, a1, a2, a3, a4, a5) :=
  br_t rfl (br_t rfl (nm_r (nI_1 0) h))
theorem cs_er1 (P : St2 → Prop) (h : P (ct, dr, rw, pt, kp, 0, nI 2, nI 1, gs, nI 2, 0, hl, fl, sd, a1, a2, a3, a4, a5)) : wpX_endRecord P (ct, dr, rw, pt, kp, st, nI 1, nI 1, gs, nI 2, rg, hl, fl, sd, a1, a2, a3, a4, a5) :=
  br_f (by decide) (br_f (by decide) (nm_r (nI_1 1) h))
/-- the characters of a quoted field -/
theorem cs_rq {post : Int32 → St2 → Prop} {d g f m : Nat} {X : Nat → Nat} {G : (Nat → Int32) → (Nat → Int32) → (Nat → Int32) → Prop} {b1 b2 b3 : Nat → Int32} {o r : List Nat} (hd : d < 8) (ho : o.length ≤ 96) (hH : cs_H o a5) (hg : g < 6) (hf : f < 5) (hm : m ≤ 6) (hG : cs_G (g * 5 + f) G) (hX : ∀ i, X i < 10)
    (H : ∀ x' sd' a2' a3', cs_Q o x' r → cs_B fl b1 b2 b3 G (g * 5 + f) X m a1 a2' a3' → (∀ n, (r).length < n → wX_readAll_47 post (nI d) n x' ct dr (nI o.length) pt kp 3 (nI g) (nI (f + 1)) (nI m) ff rg 1 fl sd' a1 a2' a3' a4 a5)) :
    ∀ (k s : Nat) (x sd : Int32) (a2 a3 : Nat → Int32), s + k = m → cs_Q o x (cs_bs d X s k ++ r) → cs_B fl b1 b2 b3 G (g * 5 + f) X s a1 a2 a3 → (∀ n, (cs_bs d X s k ++ r).length < n → wX_readAll_47 post (nI d) n x ct dr (nI o.length) pt kp 3 (nI g) (nI (f + 1)) (nI s) ff rg 1 fl sd a1 a2 a3 a4 a5) := by
  intro k
  induction k with
  | zero =>
    intro s x sd a2 a3 hk hq hB
    have e : s = m := hk
    subst e
    exact H x sd a2 a3 hq hB
  | succ k ih =>
    intro s x sd a2 a3 hk hq hB
    have hs := hX s
    by_cases h7 : X s = 7
    · by_cases h4 : d < 4
      · have e : cs_bs d X s (k + 1) ++ r = 7 :: 7 :: (cs_bs d X (s + 1) k ++ r) := by rw [cs_bs_s, cs_es_7 d h7, if_pos h4]; rfl
        rw [e] at hq ⊢
        exact cs_r37 ho hH hq (fun x' hq' => cs_r47 h4 ho hH hg hf (by omega) hG hB h7 hq' (fun x'' a2' a3' hq'' hB' => ih (s + 1) x'' x'' a2' a3' (by omega) hq'' hB'))
      · have e : cs_bs d X s (k + 1) ++ r = 10 :: 7 :: (cs_bs d X (s + 1) k ++ r) := by rw [cs_bs_s, cs_es_7 d h7, if_neg h4]; rfl
        rw [e] at hq ⊢
        exact cs_r3e hd (by omega) ho hH hq (fun x' hq' => cs_r57 ho hH hg hf (by omega) hG hB h7 hq' (fun x'' a2' a3' hq'' hB' => ih (s + 1) x'' x'' a2' a3' (by omega) hq'' hB'))
    · have e : cs_bs d X s (k + 1) ++ r = X s :: (cs_bs d X (s + 1) k ++ r) := by rw [cs_bs_s, cs_es_n d h7]; rfl
      rw [e] at hq ⊢
      exact cs_r3 ho hH hg hf (by omega) hG hB rfl h7 hs hq (fun x'' a2' a3' hq'' hB' => ih (s + 1) x'' x'' a2' a3' (by omega) hq'' hB')
/-- the characters of a plain field -/
theorem cs_rp {post : Int32 → St2 → Prop} {d g f m : Nat} {X : Nat → Nat} {G : (Nat → Int32) → (Nat → Int32) → (Nat → Int32) → Prop} {b1 b2 b3 : Nat → Int32} {o r : List Nat} (hd : d < 8) (ho : o.length ≤ 96) (hH : cs_H o a5) (hg : g < 6) (hf : f < 5) (hm : m ≤ 6) (hG : cs_G (g * 5 + f) G) (hX : ∀ i, i < m → X i < 7 ∧ X i ≠ cs_sp d)
    (H : ∀ x' st' sd' a2' a3', (st' = 1 ∨ st' = 2) → cs_Q o x' r → cs_B fl b1 b2 b3 G (g * 5 + f) X m a1 a2' a3' → (∀ n, (r).length < n → wX_readAll_47 post (nI d) n x' ct dr (nI o.length) pt kp st' (nI g) (nI (f + 1)) (nI m) ff rg 1 fl sd' a1 a2' a3' a4 a5)) :
    ∀ (k s : Nat) (x st sd : Int32) (a2 a3 : Nat → Int32), (st = 1 ∨ st = 2) → s + k = m → cs_Q o x (cs_bs d X s k ++ r) → cs_B fl b1 b2 b3 G (g * 5 + f) X s a1 a2 a3 → (∀ n, (cs_bs d X s k ++ r).length < n → wX_readAll_47 post (nI d) n x ct dr (nI o.length) pt kp st (nI g) (nI (f + 1)) (nI s) ff rg 1 fl sd a1 a2 a3 a4 a5) := by
  intro k
  induction k with
  | zero =>
    intro s x st sd a2 a3 hst hk hq hB
    have e : s = m := hk
    subst e
    exact H x st sd a2 a3 hst hq hB
  | succ k ih =>
    intro s x st sd a2 a3 hst hk hq hB
    obtain ⟨h7, hsp⟩ := hX s (by omega)
    have e : cs_bs d X s (k + 1) ++ r = X s :: (cs_bs d X (s + 1) k ++ r) := by rw [cs_bs_s, cs_es_n d (by omega)]; rfl
    rw [e] at hq ⊢
    exact cs_rpl hd ho hH hg hf (by omega) hG hst hB rfl h7 hsp hq (fun x'' a2' a3' hq'' hB' => ih (s + 1) x'' 2 x'' a2' a3' (Or.inr rfl) (by omega) hq'' hB')
/-- a field -/
theorem cs_rf {post : Int32 → St2 → Prop} {d g f m : Nat} {X : Nat → Nat} {G : (Nat → Int32) → (Nat → Int32) → (Nat → Int32) → Prop} {b1 b2 b3 : Nat → Int32} {o r : List Nat} {x : Int32} (q : Bool) (hd : d < 8) (ho : o.length ≤ 96) (hH : cs_H o a5) (hg : g < 6) (hf : f < 5) (hm : m ≤ 6) (hG : cs_G (g * 5 + f) G) (hX : ∀ i, X i < 10) (hQ : q = false → ∀ i, i < m → X i < 7 ∧ X i ≠ cs_sp d)
    (hB : cs_B fl b1 b2 b3 G (g * 5 + f) X 0 a1 a2 a3) (hq : cs_Q o x (cs_fo d X m q ++ r))
    (H : ∀ x' st' sd' a2' a3', (st' = 1 ∨ st' = 2 ∨ st' = 4) → cs_Q o x' r → cs_B fl b1 b2 b3 G (g * 5 + f) X m a1 a2' a3' → (∀ n, (r).length < n → wX_readAll_47 post (nI d) n x' ct dr (nI o.length) pt kp st' (nI g) (nI (f + 1)) (nI m) ff rg 1 fl sd' a1 a2' a3' a4 a5)) :
    (∀ n, (cs_fo d X m q ++ r).length < n → wX_readAll_47 post (nI d) n x ct dr (nI o.length) pt kp 1 (nI g) (nI (f + 1)) (nI 0) ff rg 1 fl sd a1 a2 a3 a4 a5) := by
  cases q with
  | false =>
    have e : cs_fo d X m false ++ r = cs_bs d X 0 m ++ r := by
      show (cs_bs d X 0 m ++ []) ++ r = _
      rw [List.append_nil]
    rw [e] at hq ⊢
    exact cs_rp hd ho hH hg hf hm hG (hQ rfl) (fun x' st' sd' a2' a3' hst => H x' st' sd' a2' a3' (by rcases hst with h | h <;> simp [h])) m 0 x 1 sd a2 a3 (Or.inl rfl) (by omega) hq hB
  | true =>
    have e : cs_fo d X m true ++ r = 7 :: (cs_bs d X 0 m ++ (7 :: r)) := by
      show 7 :: ((cs_bs d X 0 m ++ [7]) ++ r) = _
      rw [List.append_assoc]; rfl
    rw [e] at hq ⊢
    refine cs_r17 ho hH hq (fun x' hq' => ?_)
    refine cs_rq (r := 7 :: r) hd ho hH hg hf hm hG hX (fun x2 sd2 a2' a3' hq2 hB2 => ?_) m 0 x' x' a2 a3 (by omega) hq' hB
    exact cs_r37 ho hH hq2 (fun x3 hq3 => H x3 4 x3 a2' a3' (Or.inr (Or.inr rfl)) hq3 hB2)
/-- the end of the text -/
theorem cs_rend {post : Int32 → St2 → Prop} {d : Nat} {o : List Nat} {x : Int32} (ho : o.length ≤ 96) (hq : cs_Q o x []) (H : post 1 (ct, dr, nI o.length, pt, kp, 0, gr, gf, gs, ff, rg, hl, fl, sd, a1, a2, a3, a4, a5)) :
    (∀ n, (([] : List Nat)).length < n → wX_readAll_47 post (nI d) n x ct dr (nI o.length) pt kp 0 gr gf gs ff rg hl fl sd a1 a2 a3 a4 a5) := by
  intro n hn
  have e := cs_Qend hq
  subst e
  cases n with
  | zero => exact absurd hn (by decide)
  | succ n => exact pk_le o.length o.length (fun _ => br_f (by decide) (br_f (by decide) (br_f (by decide) (br_t rfl H)))) (fun z => absurd z (by omega))
end
section
variable {ct dr rw pt kp st gr gf gs ff rg hl fl sd : Int32} {a1 a2 a3 a4 a5 : Nat → Int32}
theorem cs_fu2 {c2 c3 : Nat → Int32} {t t' m : Nat} {X : Nat → Nat} {v : Int32} (h : t ≠ t') (hf : cs_f c2 c3 t X m) : cs_f (upd c2 t' v) c3 t X m :=
  ⟨by rw [pk_un h]; exact hf.1, hf.2⟩
theorem cs_fu3 {c2 c3 : Nat → Int32} {t t' m i : Nat} {X : Nat → Nat} {v : Int32} (h : t ≠ t') (hm : m ≤ 6) (hi : i < 6) (hf : cs_f c2 c3 t X m) : cs_f c2 (upd c3 (t' * 6 + i) v) t X m :=
  ⟨hf.1, fun j hj => by rw [pk_un (by omega)]; exact hf.2 j hj⟩
theorem cs_ne (l : List Nat) (c : Nat) (r : List Nat) : ∃ c' r', l ++ c :: r = c' :: r' := by
  cases l with
  | nil => exact ⟨_, _, rfl⟩
  | cons a l => exact ⟨_, _, rfl⟩
theorem cs_freshL {post : Int32 → St2 → Prop} {d g : Nat} {X : Nat → Nat} {G' G : (Nat → Int32) → (Nat → Int32) → (Nat → Int32) → Prop} {b1 b2 b3 : Nat → Int32} {o l : List Nat} {x : Int32} (hl : ∃ c r, l = c :: r) (ho : o.length ≤ 96) (hg : g < 6)
    (hG : ∀ c1 c2 c3, G' c1 c2 c3 → G (upd c1 g (nI (0 + 1))) (upd c2 (g * 5 + 0) (nI 0)) c3)
    (hB : cs_A fl b1 b2 b3 G' a1 a2 a3) (hq : cs_Q o x l)
    (H : ∀ a1' a2', cs_B fl b1 b2 b3 G (g * 5 + 0) X 0 a1' a2' a3 → (∀ n, (l).length < n → wX_readAll_47 post (nI d) n x ct dr (nI o.length) pt kp 1 (nI g) (nI (0 + 1)) (nI 0) ff rg 1 fl sd a1' a2' a3 a4 a5)) :
    (∀ n, (l).length < n → wX_readAll_47 post (nI d) n x ct dr (nI o.length) pt kp 0 (nI g) gf gs ff rg 1 fl sd a1 a2 a3 a4 a5) := by
  obtain ⟨c, r, e⟩ := hl
  subst e
  exact cs_fresh ho hg hG hB hq H
/-- the written text is read with its own dialect -/
theorem cs_rdAll {post : Int32 → St2 → Prop} {d m k : Nat} {X Y : Nat → Nat} {p : Int32} (hd : d < 8) (hm : m < 4) (hk : k < 4) (hX : ∀ i, X i < 10) (hY : ∀ i, Y i < 10) (hp : p = 0 ∨ p = 1) (hH : cs_H (cs_out d X m Y k) a5)
    (H : ∀ a1' a2' a3', (p = 0 → a1' = a1 ∧ a2' = a2 ∧ a3' = a3) → (¬ p = 0 → cs_T X m Y k a1' a2' a3') → post 1 (ct, dr, nI (cs_out d X m Y k).length, pt, kp, 0, nI 2, nI 1, nI 0, nI 2, 0, 1, p, nI (cs_out d X m Y k).length, a1', a2', a3', a4, a5)) :
    wpX_readAll post (ct, dr, nI (cs_out d X m Y k).length, pt, kp, st, gr, gf, gs, ff, rg, hl, fl, sd, a1, a2, a3, a4, a5) (nI d) p := by
  have ho := cs_out_len d X m Y k hm hk
  refine ⟨by rcases hp with h | h <;> rw [h] <;> rfl, by rcases hp with h | h <;> rw [h] <;> rfl, (cs_out d X m Y k).length + 1, ?_⟩
  refine cs_freshL (o := cs_out d X m Y k) (l := cs_out d X m Y k) (d := d) (g := 0) (X := X) (b1 := a1) (b2 := a2) (b3 := a3) (G' := fun _ _ _ => True) (G := fun _ _ _ => True) (cs_ne _ _ _) ho (by omega) (fun _ _ _ _ => trivial) ⟨fun _ => ⟨rfl, rfl, rfl⟩, fun _ => trivial⟩ (cs_Q0 _) (fun a1' a2' hB1 => ?_) _ (Nat.lt_succ_self _)
  refine cs_rf (m := m) (g := 0) (f := 0) (cs_qn (cs_sp d) X m) hd ho hH (by omega) (by omega) (by omega) (fun _ _ _ _ _ _ _ _ => trivial) hX (fun h => cs_qn_no h) hB1 (cs_Q0 _) (fun x1 st1 sd1 a21 a31 hst1 hQ1 hB2 => ?_)
  refine cs_rsep (g := 0) (f := 1) (X := Y) (G := fun c1 c2 c3 => c1 0 = nI 2 ∧ cs_f c2 c3 0 X m) hd ho hH (by omega) (by omega) hst1 (fun c1 c2 c3 h => ⟨pk_us, cs_fu2 (by omega) h.2⟩) hB2 hQ1 (fun x2 a12 a22 hQ2 hB3 => ?_)
  refine cs_rf (m := k) (g := 0) (f := 1) (cs_qn (cs_sp d) Y k) hd ho hH (by omega) (by omega) (by omega) (fun c1 c2 c3 v w i hi h => ⟨h.1, cs_fu2 (by omega) (cs_fu3 (by omega) (by omega) hi h.2)⟩) hY (fun h => cs_qn_no h) hB3 hQ2 (fun x3 st3 sd3 a23 a33 hst3 hQ3 hB4 => ?_)
  refine cs_reol (gr' := nI 1) (ff' := nI 2) (rg' := 1) hd ho hH hst3 (fun P s' sd' h => cs_er0 P h) hQ3 (fun x4 hQ4 => ?_)
  refine cs_freshL (g := 1) (X := X) (G := fun c1 c2 c3 => c1 0 = nI 2 ∧ c1 1 = nI 1 ∧ cs_f c2 c3 0 X m ∧ cs_f c2 c3 1 Y k) ⟨_, _, rfl⟩ ho (by omega) (fun c1 c2 c3 h => ⟨by rw [pk_un (by omega)]; exact h.1.1, pk_us, cs_fu2 (by omega) h.1.2, cs_fu2 (by omega) h.2⟩) hB4 hQ4 (fun a15 a25 hB5 => ?_)
  refine cs_rf (m := 0) (g := 1) (f := 0) true hd ho hH (by omega) (by omega) (by omega) (fun c1 c2 c3 v w i hi h => ⟨h.1, h.2.1, cs_fu2 (by omega) (cs_fu3 (by omega) (by omega) hi h.2.2.1), cs_fu2 (by omega) (cs_fu3 (by omega) (by omega) hi h.2.2.2)⟩) hX (fun h => absurd h (by decide)) hB5 hQ4 (fun x6 st6 sd6 a26 a36 hst6 hQ6 hB6 => ?_)
  refine cs_reol (gr' := nI 2) (ff' := nI 2) (rg' := 0) hd ho hH hst6 (fun P s' sd' h => cs_er1 P h) hQ6 (fun x7 hQ7 => ?_)
  refine cs_rend ho hQ7 ?_
  rw [cs_Qend hQ7]
  exact H a15 a26 a36 hB6.1 (fun z => ⟨(hB6.2 z).1.1, (hB6.2 z).1.2.1, (hB6.2 z).1.2.2.1, (hB6.2 z).1.2.2.2, (hB6.2 z).2⟩)
/-- any text, any dialect, nothing kept -/
theorem cs_htake {post : St2 → Prop} {x : Int32} (H : ∀ gs hl, post (ct, dr, rw, pt, kp, st, gr, gf, gs, ff, rg, hl, 0, sd, a1, a2, a3, a4, a5)) : wpX_take post (ct, dr, rw, pt, kp, st, gr, gf, gs, ff, rg, hl, 0, sd, a1, a2, a3, a4, a5) x :=
  nm_e (br_c (fun _ => br_t rfl (H _ _)) (fun _ => br_t rfl (H _ _)))
theorem cs_hsf {post : St2 → Prop} (H : ∀ gf gs hl, post (ct, dr, rw, pt, kp, st, gr, gf, gs, ff, rg, hl, 0, sd, a1, a2, a3, a4, a5)) : wpX_startField post (ct, dr, rw, pt, kp, st, gr, gf, gs, ff, rg, hl, 0, sd, a1, a2, a3, a4, a5) :=
  nm_e (br_c (fun _ => br_t rfl (H _ _ _)) (fun _ => br_t rfl (H _ _ _)))
theorem cs_her {post : St2 → Prop} (H : ∀ st gr ff rg, post (ct, dr, rw, pt, kp, st, gr, gf, gs, ff, rg, hl, fl, sd, a1, a2, a3, a4, a5)) : wpX_endRecord post (ct, dr, rw, pt, kp, st, gr, gf, gs, ff, rg, hl, fl, sd, a1, a2, a3, a4, a5) :=
  br_c (fun _ => br_c (fun _ => nm_e (H _ _ _ _)) (fun _ => nm_e (H _ _ _ _))) (fun _ => br_c (fun _ => nm_e (H _ _ _ _)) (fun _ => nm_e (H _ _ _ _)))
theorem cs_hstep {post : St2 → Prop} {c d : Int32} (H : ∀ st gr gf gs ff rg hl, post (ct, dr, rw, pt, kp, st, gr, gf, gs, ff, rg, hl, 0, sd, a1, a2, a3, a4, a5)) : wpX_step post (ct, dr, rw, pt, kp, st, gr, gf, gs, ff, rg, hl, 0, sd, a1, a2, a3, a4, a5) c d := by
  have e40 : ∀ st gr gf gs ff rg hl, wX_afterField_40 post c d ct dr rw pt kp st gr gf gs ff rg hl 0 sd a1 a2 a3 a4 a5 := fun st gr gf gs ff rg hl =>
    br_c (fun _ => br_c (fun _ => H _ _ _ _ _ _ _) (fun _ => H _ _ _ _ _ _ _)) (fun _ => H _ _ _ _ _ _ _)
  have e191 : ∀ st gr gf gs ff rg hl, wX_step_191 post c d ct dr rw pt kp st gr gf gs ff rg hl 0 sd a1 a2 a3 a4 a5 := by
    intro st gr gf gs ff rg hl
    refine br_c (fun _ => ?_) (fun _ => br_c (fun _ => br_c (fun _ => e40 _ _ _ _ _ _ _) (fun _ => ?_)) (fun _ => e40 _ _ _ _ _ _ _))
    · exact cs_hsf (fun gf gs hl => H _ _ _ _ _ _ _)
    · exact cs_her (fun st gr ff rg => H _ _ _ _ _ _ _)
  have e155 : ∀ st gr gf gs ff rg hl, wX_step_155 post c d ct dr rw pt kp st gr gf gs ff rg hl 0 sd a1 a2 a3 a4 a5 := by
    intro st gr gf gs ff rg hl
    refine br_c (fun _ => e191 _ _ _ _ _ _ _) (fun _ => br_c (fun _ => e191 _ _ _ _ _ _ _) (fun _ => ?_))
    refine br_c (fun _ => e191 _ _ _ _ _ _ _) (fun _ => ?_)
    exact cs_htake (fun gs hl => H _ _ _ _ _ _ _)
  have e70 : ∀ st gr gf gs ff rg hl, wX_step_70 post c d ct dr rw pt kp st gr gf gs ff rg hl 0 sd a1 a2 a3 a4 a5 := by
    intro st gr gf gs ff rg hl
    refine br_c (fun _ => br_c (fun _ => ?_) (fun _ => ?_)) (fun _ => br_c (fun _ => br_c (fun _ => ?_) (fun _ => H _ _ _ _ _ _ _)) (fun _ => br_c (fun _ => br_c (fun _ => H _ _ _ _ _ _ _) (fun _ => e155 _ _ _ _ _ _ _)) (fun _ => e155 _ _ _ _ _ _ _)))
    · exact cs_htake (fun gs hl => H _ _ _ _ _ _ _)
    · exact cs_htake (fun gs hl => H _ _ _ _ _ _ _)
    · exact cs_her (fun st gr ff rg => H _ _ _ _ _ _ _)
  have e16 : ∀ st gr gf gs ff rg hl, wX_step_16 post c d ct dr rw pt kp st gr gf gs ff rg hl 0 sd a1 a2 a3 a4 a5 := by
    intro st gr gf gs ff rg hl
    refine br_c (fun _ => ?_) (fun _ => br_c (fun _ => br_c (fun _ => br_c (fun _ => ?_) (fun _ => ?_)) (fun _ => e70 _ _ _ _ _ _ _)) (fun _ => e70 _ _ _ _ _ _ _))
    · refine br_c (fun _ => H _ _ _ _ _ _ _) (fun _ => br_c (fun _ => br_c (fun _ => H _ _ _ _ _ _ _) (fun _ => H _ _ _ _ _ _ _)) (fun _ => ?_))
      exact cs_htake (fun gs hl => H _ _ _ _ _ _ _)
    · exact cs_htake (fun gs hl => H _ _ _ _ _ _ _)
    · exact cs_htake (fun gs hl => H _ _ _ _ _ _ _)
  refine br_c (fun _ => br_c (fun _ => ?_) (fun _ => ?_)) (fun _ => e16 _ _ _ _ _ _ _)
  · exact cs_hsf (fun gf gs hl => e16 _ _ _ _ _ _ _)
  · exact cs_hsf (fun gf gs hl => e16 _ _ _ _ _ _ _)
theorem cs_h97 {post : Int32 → St2 → Prop} (H : ∀ (v : Int32) st gr ff rg, post v (ct, dr, rw, pt, kp, st, gr, gf, gs, ff, rg, hl, fl, sd, a1, a2, a3, a4, a5)) : wX_readAll_97 post ct dr rw pt kp st gr gf gs ff rg hl fl sd a1 a2 a3 a4 a5 := by
  have e125 : ∀ st gr ff rg, wX_readAll_125 post ct dr rw pt kp st gr gf gs ff rg hl fl sd a1 a2 a3 a4 a5 := fun st gr ff rg => br_c (fun _ => H _ _ _ _ _) (fun _ => H _ _ _ _ _)
  have e121 : wX_readAll_121 post ct dr rw pt kp st gr gf gs ff rg hl fl sd a1 a2 a3 a4 a5 := cs_her (fun st gr ff rg => e125 _ _ _ _)
  exact br_c (fun _ => e121) (fun _ => br_c (fun _ => e121) (fun _ => br_c (fun _ => e121) (fun _ => e125 _ _ _ _)))
theorem cs_hread {post : Int32 → St2 → Prop} {x1 : Int32} {o : List Nat} (ho : o.length ≤ 96) (H : ∀ (v : Int32) st gr gf gs ff rg hl sd, post v (ct, dr, nI o.length, pt, kp, st, gr, gf, gs, ff, rg, hl, 0, sd, a1, a2, a3, a4, a5)) :
    ∀ (n : Nat) (r : List Nat) (x : Int32) st gr gf gs ff rg hl sd, cs_Q o x r → r.length < n → wX_readAll_47 post x1 n x ct dr (nI o.length) pt kp st gr gf gs ff rg hl 0 sd a1 a2 a3 a4 a5 := by
  intro n
  induction n with
  | zero => intro r x st gr gf gs ff rg hl sd _ h; exact absurd h (by omega)
  | succ n ih =>
    intro r x st gr gf gs ff rg hl sd hq hn
    have e97 : wX_readAll_97 post ct dr (nI o.length) pt kp st gr gf gs ff rg hl 0 sd a1 a2 a3 a4 a5 := cs_h97 (fun v st gr ff rg => H _ _ _ _ _ _ _ _ _)
    obtain ⟨k, h1, h2, h3⟩ := hq
    subst h2
    refine pk_le o.length k (fun _ => e97) (fun hlt => br_c (fun _ => e97) (fun _ => ⟨pk_in k 96 (by omega), ?_⟩))
    cases r with
    | nil => exact absurd h1 (by rw [List.length_nil]; omega)
    | cons c r =>
      obtain ⟨g1, g2, g3⟩ := cs_dr h3
      rw [List.length_cons] at h1 hn
      have q : cs_Q o (nI (k + 1)) r := ⟨k + 1, by omega, rfl, g3⟩
      refine cs_hstep (fun st gr gf gs ff rg hl => ?_)
      exact br_c (fun _ => nm_r (nI_1 k) (ih r _ _ _ _ _ _ _ _ _ q (by omega))) (fun _ => nm_e (nm_r (nI_1 k) (ih r _ _ _ _ _ _ _ _ _ q (by omega))))
theorem cs_hrdAll {post : Int32 → St2 → Prop} {x1 : Int32} {o : List Nat} (ho : o.length ≤ 96) (H : ∀ (v : Int32) st gr gf gs ff rg hl sd, post v (ct, dr, nI o.length, pt, kp, st, gr, gf, gs, ff, rg, hl, 0, sd, a1, a2, a3, a4, a5)) :
    wpX_readAll post (ct, dr, nI o.length, pt, kp, st, gr, gf, gs, ff, rg, hl, fl, sd, a1, a2, a3, a4, a5) x1 0 :=
  ⟨rfl, rfl, o.length + 1, cs_hread ho H _ o 0 _ _ _ _ _ _ _ _ (cs_Q0 o) (by omega)⟩
end
section
variable {ct dr rw pt kp st gr gf gs ff rg hl fl sd : Int32} {a1 a2 a3 a4 a5 : Nat → Int32}
theorem cs_orb {v w s : Int32} (h1 : (v >>> s) &&& 1 = 0) (h2 : (w >>> s) &&& 1 = 0) : ((v ||| w) >>> s) &&& 1 = 0 := by
  rw [Int32.shiftRight_or]
  apply Int32.toBitVec_inj.mp
  rw [Int32.toBitVec_and, Int32.toBitVec_or, BitVec.and_or_distrib_right, ← Int32.toBitVec_and, ← Int32.toBitVec_and, h1, h2]
  rfl
theorem cs_1sh : ∀ d, d < 8 → ∀ i, i < 8 → i ≠ d → (((1 : Int32) <<< (nI i &&& 31)) >>> (nI d &&& 31)) &&& 1 = 0 := by decide +kernel
theorem cs_0sh : ∀ d, d < 8 → ((0 : Int32) >>> (nI d &&& 31)) &&& 1 = 0 := by decide +kernel
theorem cs_even {post : Int32 → St2 → Prop} {d m k : Nat} {X Y : Nat → Nat} (hd : d < 8) (hm : m < 4) (hk : k < 4) (hX : ∀ i, X i < 10) (hY : ∀ i, Y i < 10) (hH : cs_H (cs_out d X m Y k) a5)
    (H : ∀ v st gr gf gs ff rg hl fl sd, (v >>> (nI d &&& 31)) &&& 1 = 0 → post v (ct, dr, nI (cs_out d X m Y k).length, pt, kp, st, gr, gf, gs, ff, rg, hl, fl, sd, a1, a2, a3, a4, a5)) :
    wpX_even post (ct, dr, nI (cs_out d X m Y k).length, pt, kp, st, gr, gf, gs, ff, rg, hl, fl, sd, a1, a2, a3, a4, a5) := by
  have ho := cs_out_len d X m Y k hm hk
  have main : ∀ (j i : Nat) (v : Int32) st gr gf gs ff rg hl fl sd, i + j = 8 → (v >>> (nI d &&& 31)) &&& 1 = 0 → wX_even_4 post (j + 1) v (nI i) ct dr (nI (cs_out d X m Y k).length) pt kp st gr gf gs ff rg hl fl sd a1 a2 a3 a4 a5 := by
    intro j
    induction j with
    | zero =>
      intro i v st gr gf gs ff rg hl fl sd hi hv
      exact pk_le 8 i (fun _ => H _ _ _ _ _ _ _ _ _ _ hv) (fun z => absurd z (by omega))
    | succ j ih =>
      intro i v st gr gf gs ff rg hl fl sd hi hv
      refine pk_le 8 i (fun z => absurd z (by omega)) (fun _ => ?_)
      by_cases e : i = d
      · subst e
        refine cs_rdAll hd hm hk hX hY (Or.inl rfl) hH (fun b1 b2 b3 hz _ => ?_)
        obtain ⟨z1, z2, z3⟩ := hz rfl
        subst z1 z2 z3
        exact br_f (by decide) (br_t rfl (nm_r (nI_1 i) (ih _ _ _ _ _ _ _ _ _ _ _ (by omega) hv)))
      · refine cs_hrdAll ho (fun w st gr gf gs ff rg hl sd => ?_)
        refine br_c (fun _ => nm_r (nI_1 i) (ih _ _ _ _ _ _ _ _ _ _ _ (by omega) hv)) (fun _ => br_c (fun _ => nm_r (nI_1 i) (ih _ _ _ _ _ _ _ _ _ _ _ (by omega) hv)) (fun _ => nm_e (nm_r (nI_1 i) (ih _ _ _ _ _ _ _ _ _ _ _ (by omega) ?_))))
        exact cs_orb hv (cs_1sh d hd i (by omega) e)
  exact ⟨9, main 8 0 0 _ _ _ _ _ _ _ _ _ (by omega) (cs_0sh d hd)⟩
theorem cs_read {post : Int32 → St2 → Prop} {d m k : Nat} {X Y : Nat → Nat} (hd : d < 8) (hm : m < 4) (hk : k < 4) (hX : ∀ i, X i < 10) (hY : ∀ i, Y i < 10) (hH : cs_H (cs_out d X m Y k) a5)
    (H : ∀ st gr gf gs ff rg hl fl sd a1 a2 a3, cs_T X m Y k a1 a2 a3 → post (nI 2) (nI 2, dr, nI (cs_out d X m Y k).length, pt, kp, st, gr, gf, gs, ff, rg, hl, fl, sd, a1, a2, a3, a4, a5)) :
    wpX_read post (ct, dr, nI (cs_out d X m Y k).length, pt, kp, st, gr, gf, gs, ff, rg, hl, fl, sd, a1, a2, a3, a4, a5) (nI d) := by
  unfold wpX_read
  dsimp only
  refine cs_bd hd ?_
  refine br_t rfl ?_
  refine cs_rdAll hd hm hk hX hY (Or.inl rfl) hH (fun b1 b2 b3 _ _ => ?_)
  refine br_f (by decide) (br_f (show ¬ (1 : Int32) = 0 by decide) ?_)
  exact cs_rdAll hd hm hk hX hY (Or.inr rfl) hH (fun c1 c2 c3 _ hT => H _ _ _ _ _ _ _ _ _ c1 c2 c3 (hT (by decide)))
theorem cs_sound {post : Int32 → St2 → Prop} {d m k : Nat} {X Y : Nat → Nat} (hd : d < 8) (hm : m < 4) (hk : k < 4) (hX : ∀ i, X i < 10) (hY : ∀ i, Y i < 10) (hH : cs_H (cs_out d X m Y k) a5)
    (H : ∀ st gr gf gs ff rg hl fl sd, post (nI (cs_out d X m Y k).length) (ct, dr, nI (cs_out d X m Y k).length, pt, kp, st, gr, gf, gs, ff, rg, hl, fl, sd, a1, a2, a3, a4, a5)) :
    wpX_sound post (ct, dr, nI (cs_out d X m Y k).length, pt, kp, st, gr, gf, gs, ff, rg, hl, fl, sd, a1, a2, a3, a4, a5) (nI d) := by
  unfold wpX_sound
  dsimp only
  refine cs_bd hd ?_
  refine br_t rfl ?_
  refine cs_rdAll hd hm hk hX hY (Or.inl rfl) hH (fun b1 b2 b3 hz _ => ?_)
  obtain ⟨z1, z2, z3⟩ := hz rfl
  subst z1 z2 z3
  exact H _ _ _ _ _ _ _ _ _
theorem cs_fields {post : Int32 → Prop} {r fc : Nat} (hr : r < 2) (h : a1 r = nI fc) (H : post (nI fc)) : wpX_fields post (nI 2, dr, rw, pt, kp, st, gr, gf, gs, ff, rg, hl, fl, sd, a1, a2, a3, a4, a5) (nI r) := by
  refine pk_lt r 0 (fun z => absurd z (by omega)) (fun _ => pk_lt r 2 (fun _ => ⟨pk_in r 6 (by omega), ?_⟩) (fun z => absurd z (by omega)))
  rw [nI_clamp (by omega), h]
  exact H
theorem cs_nof {post : Int32 → Prop} {r f fc : Nat} (hr : r < 2) (hf : f < fc) (hfc : fc < 6) (h : a1 r = nI fc) (H : post 0) : wpX_noField post (nI 2, dr, rw, pt, kp, st, gr, gf, gs, ff, rg, hl, fl, sd, a1, a2, a3, a4, a5) (nI r) (nI f) := by
  have e : a1 (nI r).toNatClampNeg = nI fc := by rw [nI_clamp (by omega)]; exact h
  exact pk_lt r 0 (fun z => absurd z (by omega)) (fun _ => pk_le 2 r (fun z => absurd z (by omega)) (fun _ => pk_lt f 0 (fun z => absurd z (by omega)) (fun _ => ⟨pk_in r 6 (by omega), pk_lt f fc (fun _ => H) (fun z => absurd z (by omega)) rfl e⟩)))
theorem cs_size {post : Int32 → Prop} {r f fc m : Nat} (hr : r < 2) (hf : f < fc) (hfc : fc < 6) (h : a1 r = nI fc) (h2 : a2 (r * 5 + f) = nI m) (H : post (nI m)) : wpX_size post (nI 2, dr, rw, pt, kp, st, gr, gf, gs, ff, rg, hl, fl, sd, a1, a2, a3, a4, a5) (nI r) (nI f) := by
  unfold wpX_size
  dsimp only
  refine cs_nof hr hf hfc h ?_
  refine br_t rfl ⟨pk_in (r * 5 + f) 30 (by omega) (cs_i5 r f), ?_⟩
  rw [cs_i5, nI_clamp (by omega), h2]
  exact H
theorem cs_at {post : Int32 → Prop} {r f fc m i : Nat} {X : Nat → Nat} (hr : r < 2) (hf : f < fc) (hfc : fc < 5) (hm : m ≤ 6) (hi : i < 6) (h : a1 r = nI fc) (h2 : cs_f a2 a3 (r * 5 + f) X m) (H0 : m ≤ i → post (-4)) (H1 : i < m → post (nI (X i))) : wpX_at post (nI 2, dr, rw, pt, kp, st, gr, gf, gs, ff, rg, hl, fl, sd, a1, a2, a3, a4, a5) (nI r) (nI f) (nI i) := by
  unfold wpX_at
  dsimp only
  refine cs_nof hr hf (by omega) h ?_
  have e2 : a2 (nI r * 5 + nI f).toNatClampNeg = nI m := by rw [cs_i5, nI_clamp (by omega)]; exact h2.1
  refine br_t rfl (pk_lt i 0 (fun z => absurd z (by omega)) (fun _ => ⟨pk_in (r * 5 + f) 30 (by omega) (cs_i5 r f), pk_lt i m (fun z => ⟨pk_in ((r * 5 + f) * 6 + i) 180 (by omega) (by rw [cs_i5, cs_ix]), ?_⟩) H0 rfl e2⟩))
  rw [cs_i5, cs_ix, nI_clamp (by omega), h2.2 i z]
  exact H1 z
/-- a digit of the script -/
def cs_dg (x : Int32) (i : Nat) : Nat := (x >>> ((4 * nI i) &&& 31)).toBitVec.toNat % 16 % 10
theorem cs_dg_lt (x : Int32) (i : Nat) : cs_dg x i < 10 := Nat.mod_lt _ (by omega)
theorem cs_digit {post : Int32 → Prop} {x : Int32} {i : Nat} (H : post (nI (cs_dg x i))) : wpL_digit post () x (nI i) := by
  refine ⟨by decide, ?_⟩
  rw [pk_and (x >>> ((4 * nI i) &&& 31)) (m := 15) 4 (by decide)]
  have e : nI ((x >>> ((4 * nI i) &&& 31)).toBitVec.toNat % 2 ^ 4) - nI ((x >>> ((4 * nI i) &&& 31)).toBitVec.toNat % 2 ^ 4) / 10 * 10 = nI (cs_dg x i) := pk_rem (d := 10) (by omega) (by omega) (by omega)
  rw [e]
  exact H
theorem cs_exp {post : Int32 → Prop} {o r : List Nat} {c : Nat} {x p : Int32} (ho : o.length ≤ 96) (hH : cs_H o a5) (hq : cs_Q o x (c :: r)) (H : ∀ x', cs_Q o x' r → post x') (hp : p = nI c := by rfl) : wpL_expect post (ct, dr, nI o.length, pt, kp, st, gr, gf, gs, ff, rg, hl, fl, sd, a1, a2, a3, a4, a5) x p := by
  obtain ⟨k, h1, h2, h3⟩ := hq
  obtain ⟨g1, g2, g3⟩ := cs_dr h3
  subst h2 hp
  rw [List.length_cons] at h1
  refine pk_lt k 0 (fun z => absurd z (by omega)) (fun _ => ?_)
  refine pk_lt k 0 (fun z => absurd z (by omega)) (fun _ => pk_lt k o.length (fun _ => ⟨pk_in k 96 (by omega), ?_⟩) (fun z => absurd z (by omega)))
  refine br_t (by rw [nI_clamp (by omega), hH k g1, g2]) ?_
  rw [nI_1]
  exact H _ ⟨k + 1, by omega, rfl, g3⟩
theorem cs_draft {post : Int32 → St2 → Prop} {c s : Nat} (hc : c < 10) (hs : s < 6) (H : post (nI (s + 1)) (ct, nI (s + 1), rw, pt, kp, st, gr, gf, gs, ff, rg, hl, fl, sd, a1, a2, a3, upd a4 s (nI c), a5)) : wpX_draft post (ct, nI s, rw, pt, kp, st, gr, gf, gs, ff, rg, hl, fl, sd, a1, a2, a3, a4, a5) (nI c) := by
  refine pk_lt c 0 (fun z => absurd z (by omega)) (fun _ => pk_le c 9 (fun _ => pk_eq s 6 (fun z => absurd z (by omega)) (fun _ => ⟨pk_in s 6 hs, ?_⟩)) (fun z => absurd z (by omega)))
  exact nm_r (by rw [nI_clamp (by omega)]) (nm_r (nI_1 s) H)
theorem cs_place {post : St2 → Prop} {t m : Nat} (ht : t < 30) (hm : m ≤ 6)
    (H : ∀ a3', (∀ i, i < m → a3' (t * 6 + i) = a4 i) → (∀ j, (j < t * 6 ∨ t * 6 + 6 ≤ j) → a3' j = a3 j) → post (ct, 0, rw, pt, kp, st, gr, gf, gs, ff, rg, hl, fl, sd, a1, upd a2 t (nI m), a3', a4, a5)) : wpX_place post (ct, nI m, rw, pt, kp, st, gr, gf, gs, ff, rg, hl, fl, sd, a1, a2, a3, a4, a5) (nI t) := by
  refine pk_loop (σ := Nat → Int32) (fun n i s => wX_place_2 post (nI t) ct (nI m) rw pt kp st gr gf gs ff rg hl fl sd n (nI i) a1 a2 s a4 a5) (fun i s => (∀ j, j < i → s (t * 6 + j) = a4 j) ∧ (∀ j, (j < t * 6 ∨ t * 6 + 6 ≤ j) → s j = a3 j)) m 0 a3 (by omega) ⟨fun j hj => absurd hj (by omega), fun j _ => rfl⟩ ?_ ?_
  · intro n s h
    refine pk_le m m (fun _ => ⟨pk_in t 30 ht, ?_⟩) (fun z => absurd z (by omega))
    exact nm_r (by rw [nI_clamp (by omega)]) (H s h.1 h.2)
  · intro n i s hi h hw
    refine pk_le m i (fun z => absurd z (by omega)) (fun _ => ⟨pk_in i 6 (by omega), pk_in (t * 6 + i) 180 (by omega) (cs_ix t i), ?_⟩)
    refine nm_r (e' := upd s (t * 6 + i) (a4 i)) (by rw [cs_ix, nI_clamp (by omega), nI_clamp (by omega)]) (nm_r (nI_1 i) (hw _ ⟨fun j hj => ?_, fun j hj => ?_⟩))
    · by_cases e : j = i
      · rw [e, pk_us]
      · rw [pk_un (by omega)]
        exact h.1 j (by omega)
    · rw [pk_un (by omega)]
      exact h.2 j hj
theorem cs_addRow {post : Int32 → St2 → Prop} {c m : Nat} (hc : c < 6) (hm : m ≤ 6)
    (H : ∀ a3', (∀ i, i < m → a3' (c * 5 * 6 + i) = a4 i) → (∀ j, (j < c * 5 * 6 ∨ c * 5 * 6 + 6 ≤ j) → a3' j = a3 j) → post (nI (c + 1)) (nI (c + 1), 0, rw, pt, kp, st, gr, gf, gs, ff, rg, hl, fl, sd, upd a1 c (nI 1), upd a2 (c * 5) (nI m), a3', a4, a5)) :
    wpX_addRow post (nI c, nI m, rw, pt, kp, st, gr, gf, gs, ff, rg, hl, fl, sd, a1, a2, a3, a4, a5) := by
  have e : nI c * 5 = nI (c * 5) := pk_mul c 5
  refine pk_eq c 6 (fun z => absurd z (by omega)) (fun _ => ⟨pk_in c 6 hc, nm_r (e' := upd a1 c (nI 1)) (by rw [nI_clamp (by omega)]; rfl) ?_⟩)
  rw [e]
  refine cs_place (by omega) hm (fun a3' h1 h2 => ?_)
  exact nm_r (nI_1 c) (H a3' h1 h2)
theorem cs_field {post : Int32 → St2 → Prop} {m : Nat} (hm : m ≤ 6) (h1 : a1 0 = nI 1)
    (H : ∀ a3', (∀ i, i < m → a3' (1 * 6 + i) = a4 i) → (∀ j, (j < 1 * 6 ∨ 1 * 6 + 6 ≤ j) → a3' j = a3 j) → ∀ v, post v (nI 1, 0, rw, pt, kp, st, gr, gf, gs, ff, rg, hl, fl, sd, upd a1 0 (nI 2), upd a2 1 (nI m), a3', a4, a5)) :
    wpX_field post (nI 1, nI m, rw, pt, kp, st, gr, gf, gs, ff, rg, hl, fl, sd, a1, a2, a3, a4, a5) := by
  have e : a1 (nI 0).toNatClampNeg = nI 1 := by rw [nI_clamp (by omega)]; exact h1
  refine pk_eq 1 0 (fun z => absurd z (by omega)) (fun _ => nm_r (e' := nI 0) rfl ⟨pk_in 0 6 (by omega), pk_eq 1 5 (fun z => absurd z (by omega)) (fun _ => ⟨pk_in 0 6 (by omega), ?_⟩) e⟩)
  rw [e]
  refine cs_place (t := 1) (by omega) hm (fun a3' h1 h2 => ⟨pk_in 0 6 (by omega), pk_in 0 6 (by omega), ?_⟩)
  rw [e]
  refine nm_r (e' := upd a1 0 (nI 2)) (by rw [nI_clamp (by omega)]; rfl) ⟨pk_in 0 6 (by omega), H a3' h1 h2 _⟩
end
section
variable {ct dr rw pt kp st gr gf gs ff rg hl fl sd : Int32} {a1 a2 a3 a4 a5 : Nat → Int32}
theorem cs_462 {post : Int32 → St0 → Prop} {mc ms kc ks : Nat} {J : Int32 → Int32 → Prop} {x0 x1 x5 x6 x10 x11 z0 : Int32} {d i : Nat} {o r : List Nat} (hd : d < 8) (ho : o.length ≤ 96) (hH : cs_H o a5) (hq : cs_Q o z0 (cs_el d ++ r))
    (H : ∀ x', cs_Q o x' r → J x' (nI (i + 1))) : wL_lawOf_462 post mc ms J x0 x1 (nI d) x5 x6 x10 x11 (nI i) z0 kc ks ct dr (nI o.length) pt kp st gr gf gs ff rg hl fl sd a1 a2 a3 a4 a5 := by
  unfold cs_el at hq
  refine ek_if (cs_bit2 d hd) (fun z => ?_) (fun z => ?_)
  · rw [if_pos z] at hq
    refine cs_exp ho hH hq (fun x' hq' => ?_)
    exact cs_exp ho hH hq' (fun x'' hq'' => nm_r (nI_1 i) (H x'' hq''))
  · rw [if_neg z] at hq
    exact cs_exp ho hH hq (fun x'' hq'' => nm_r (nI_1 i) (H x'' hq''))
/-- the law's last rows -/
theorem cs_fin {post : Int32 → St0 → Prop} {mc ms kc ks : Nat} {x0 x1 : Int32} {d m k n : Nat} (hd : d < 8) (hm : m < 4) (hk : k < 4) (hH : cs_H (cs_out d (cs_dg x0) m (cs_dg x1) k) a5) (hP : post 1 ()) :
    wL_lawOf_416 post mc ms x0 x1 (nI d) (nI m) (nI k) (nI 2) (nI (cs_out d (cs_dg x0) m (cs_dg x1) k).length) kc ks (nI 2) dr (nI (cs_out d (cs_dg x0) m (cs_dg x1) k).length) pt kp st gr gf gs ff rg hl fl sd a1 a2 a3 a4 a5 (n + 1) (nI (cs_out d (cs_dg x0) m (cs_dg x1) k).length) (nI 2) := by
  have hX := cs_dg_lt x0
  have hY := cs_dg_lt x1
  refine pk_le 2 2 (fun _ => ?_) (fun z => absurd z (by omega))
  refine cs_even hd hm hk hX hY hH (fun v st gr gf gs ff rg hl fl sd hv => ?_)
  refine nm_r hv ?_
  refine cs_read hd hm hk hX hY hH (fun st gr gf gs ff rg hl fl sd a1 a2 a3 hT => ?_)
  refine cs_digit (i := 0) ?_
  refine cs_digit (i := 2) ?_
  refine br_t rfl (br_t rfl ?_)
  refine cs_written hd hm hk hX hY hT ?_
  refine br_t rfl ?_
  refine cs_sound hd hm hk hX hY hH (fun st gr gf gs ff rg hl fl sd => ?_)
  refine br_t rfl (br_t rfl (br_t rfl ?_))
  obtain ⟨t1, t2, t3, t4, t5⟩ := hT
  refine cs_fields (r := 0) (fc := 2) (by omega) t1 ?_
  refine br_t rfl ?_
  refine cs_fields (r := 1) (fc := 1) (by omega) t2 ?_
  refine br_t rfl ?_
  refine cs_size (r := 0) (f := 0) (fc := 2) (by omega) (by omega) (by omega) t1 t3.1 ?_
  refine br_t rfl ?_
  refine cs_size (r := 0) (f := 1) (fc := 2) (by omega) (by omega) (by omega) t1 t4.1 ?_
  refine br_t rfl ?_
  refine cs_size (r := 1) (f := 0) (fc := 1) (by omega) (by omega) (by omega) t2 t5.1 ?_
  refine br_t rfl ?_
  have last : ∀ z, wL_lawOf_649 post mc ms (nI k) (nI (cs_dg x1 2)) z z kc ks (nI 2) dr (nI (cs_out d (cs_dg x0) m (cs_dg x1) k).length) (nI (cs_out d (cs_dg x0) m (cs_dg x1) k).length) 0 st gr gf gs ff rg hl fl sd a1 a2 a3 a4 a5 := by
    intro z
    refine br_t rfl ?_
    refine cs_at (r := 0) (f := 1) (fc := 2) (m := k) (i := 2) (X := cs_dg x1) (by omega) (by omega) (by omega) (by omega) (by omega) t1 t4 (fun w => ?_) (fun w => ?_)
    · exact pk_le k 2 (fun _ => br_t rfl hP) (fun w' => absurd w (by omega))
    · exact pk_le k 2 (fun w' => absurd w (by omega)) (fun _ => br_t rfl hP)
  refine cs_at (r := 0) (f := 0) (fc := 2) (m := m) (i := 0) (X := cs_dg x0) (by omega) (by omega) (by omega) (by omega) (by omega) t1 t3 (fun w => ?_) (fun w => ?_)
  · exact pk_le m 0 (fun _ => last _) (fun w' => absurd w (by omega))
  · exact pk_le m 0 (fun w' => absurd w (by omega)) (fun _ => last _)
theorem cs_416 {post : Int32 → St0 → Prop} {mc ms kc ks : Nat} {x0 x1 z0 : Int32} {d m k : Nat} (hd : d < 8) (hm : m < 4) (hk : k < 4) (hH : cs_H (cs_out d (cs_dg x0) m (cs_dg x1) k) a5) (hP : post 1 ())
    (hq : cs_Q (cs_out d (cs_dg x0) m (cs_dg x1) k) z0 (cs_el d ++ (cs_fo d (cs_dg x0) 0 true ++ (cs_el d ++ [])))) :
    ∃ fu, wL_lawOf_416 post mc ms x0 x1 (nI d) (nI m) (nI k) (nI 2) (nI (cs_out d (cs_dg x0) m (cs_dg x1) k).length) kc ks (nI 2) dr (nI (cs_out d (cs_dg x0) m (cs_dg x1) k).length) pt kp st gr gf gs ff rg hl fl sd a1 a2 a3 a4 a5 fu z0 0 := by
  have ho := cs_out_len d (cs_dg x0) m (cs_dg x1) k hm hk
  refine ⟨3, ?_⟩
  refine pk_le 2 0 (fun z => absurd z (by omega)) (fun _ => br_f (by decide) (br_f (by decide) ?_))
  refine cs_462 (i := 0) hd ho hH hq (fun y1 hq1 => ?_)
  refine pk_le 2 1 (fun z => absurd z (by omega)) (fun _ => br_t rfl ?_)
  refine cs_exp ho hH hq1 (fun y2 hq2 => ?_)
  refine br_t rfl ?_
  refine cs_exp ho hH hq2 (fun y3 hq3 => ?_)
  refine cs_462 (i := 1) hd ho hH hq3 (fun y4 hq4 => ?_)
  rw [cs_Qend hq4]
  exact cs_fin hd hm hk hH hP
theorem cs_312 {post : Int32 → St0 → Prop} {mc ms kc ks : Nat} {J J' : Int32 → Int32 → Prop} {x0 x1 x5 x6 x7 x8 x9 x10 x11 x13 x14 s : Int32} {d i c : Nat} {Z : Nat → Nat} {o r : List Nat} (hd : d < 8) (ho : o.length ≤ 96) (hH : cs_H o a5) (hc : c < 4) (hi : i < 3) (hZ : ∀ i, Z i < 10)
    (hq : cs_Q o s (cs_bs d Z i (c - i) ++ r)) (hw : ∀ s', cs_Q o s' (cs_bs d Z (i + 1) (c - (i + 1)) ++ r) → J' s' (nI (i + 1))) :
    wL_lawOf_312 post mc ms J J' x0 x1 (nI d) x5 x6 x7 x8 x9 x10 x11 s x13 x14 (nI i) (nI (Z i)) (nI c) (nI i) kc ks ct dr (nI o.length) pt kp st gr gf gs ff rg hl fl sd a1 a2 a3 a4 a5 := by
  have hz := hZ i
  refine pk_le c i (fun z => ?_) (fun z => ?_)
  · refine br_t rfl (br_t rfl (nm_r (nI_1 i) (hw s ?_)))
    rw [show c - i = 0 by omega] at hq
    rw [show c - (i + 1) = 0 by omega]
    exact hq
  · rw [show c - i = (c - (i + 1)) + 1 by omega, cs_bs_s] at hq
    refine br_f (by decide) (pk_eq (Z i) 7 (fun h7 => ?_) (fun h7 => ?_))
    · rw [cs_es_7 d h7] at hq
      refine ek_if (cs_bit4 d hd) (fun h4 => ?_) (fun h4 => ?_)
      · rw [if_pos h4] at hq
        refine cs_exp ho hH hq (fun y1 hq1 => ?_)
        refine br_f (by decide) ?_
        exact cs_exp (c := 7) ho hH hq1 (fun y2 hq2 => nm_r (nI_1 i) (hw y2 hq2)) (by rw [h7])
      · rw [if_neg h4] at hq
        refine cs_exp ho hH hq (fun y1 hq1 => ?_)
        refine br_f (by decide) ?_
        exact cs_exp (c := 7) ho hH hq1 (fun y2 hq2 => nm_r (nI_1 i) (hw y2 hq2)) (by rw [h7])
    · rw [cs_es_n d h7] at hq
      refine br_f (by decide) ?_
      exact cs_exp ho hH hq (fun y2 hq2 => nm_r (nI_1 i) (hw y2 hq2))
theorem cs_270 {post : Int32 → St0 → Prop} {mc ms kc ks : Nat} {J : Int32 → Int32 → Prop} {x0 x1 x7 x8 x9 x10 x11 z0 : Int32} {d m k f c : Nat} {Z : Nat → Nat} {q : Bool} {o r : List Nat} (hd : d < 8) (ho : o.length ≤ 96) (hH : cs_H o a5) (hm : m < 4) (hk : k < 4)
    (hZ : (f = 0 ∧ Z = cs_dg x0 ∧ c = m) ∨ (f = 1 ∧ Z = cs_dg x1 ∧ c = k))
    (hq : cs_Q o z0 (cs_bs d Z 0 c ++ (cs_q1 q ++ r))) (H : ∀ x', cs_Q o x' r → J x' (nI (f + 1))) :
    ∃ fu, wL_lawOf_270 post mc ms J x0 x1 (nI d) (nI m) (nI k) x7 x8 x9 x10 x11 (nI f) (cs_b q) kc ks ct dr (nI o.length) pt kp st gr gf gs ff rg hl fl sd a1 a2 a3 a4 a5 fu z0 0 := by
  refine pk_loop (σ := Int32) (fun n i s => wL_lawOf_270 post mc ms J x0 x1 (nI d) (nI m) (nI k) x7 x8 x9 x10 x11 (nI f) (cs_b q) kc ks ct dr (nI o.length) pt kp st gr gf gs ff rg hl fl sd a1 a2 a3 a4 a5 n s (nI i)) (fun i s => cs_Q o s (cs_bs d Z i (c - i) ++ (cs_q1 q ++ r))) 3 0 z0 (by omega) hq ?_ ?_
  · intro n s h
    have hc : c - 3 = 0 := by omega
    rw [hc] at h
    refine pk_le 3 3 (fun _ => ?_) (fun z => absurd z (by omega))
    cases q with
    | false => exact br_t rfl (nm_r (nI_1 f) (H _ h))
    | true =>
      refine br_f (by decide) ?_
      exact cs_exp ho hH h (fun y hy => nm_r (nI_1 f) (H y hy))
  · intro n i s hi h hw
    refine pk_le 3 i (fun z => absurd z (by omega)) (fun _ => ?_)
    rcases hZ with ⟨e1, e2, e3⟩ | ⟨e1, e2, e3⟩
    · subst e1 e2 e3
      refine br_t rfl ?_
      refine cs_digit ?_
      refine br_t rfl ?_
      exact cs_312 hd ho hH hm hi (cs_dg_lt x0) h hw
    · subst e1 e2 e3
      refine br_f (by decide) ?_
      refine cs_digit ?_
      refine br_f (by decide) ?_
      exact cs_312 hd ho hH hk hi (cs_dg_lt x1) h hw
theorem cs_245 {post : Int32 → St0 → Prop} {mc ms kc ks : Nat} {J : Int32 → Int32 → Prop} {x0 x1 x7 x8 x9 x10 x11 z0 : Int32} {d m k f c : Nat} {Z : Nat → Nat} {q : Bool} {o r : List Nat} (hd : d < 8) (ho : o.length ≤ 96) (hH : cs_H o a5) (hm : m < 4) (hk : k < 4)
    (hZ : (f = 0 ∧ Z = cs_dg x0 ∧ c = m) ∨ (f = 1 ∧ Z = cs_dg x1 ∧ c = k))
    (hq : cs_Q o z0 (cs_fo d Z c q ++ r)) (H : ∀ x', cs_Q o x' r → J x' (nI (f + 1))) :
    wL_lawOf_245 post mc ms J x0 x1 (nI d) (nI m) (nI k) x7 x8 x9 x10 x11 (nI f) (cs_b q) z0 kc ks ct dr (nI o.length) pt kp st gr gf gs ff rg hl fl sd a1 a2 a3 a4 a5 := by
  unfold cs_fo at hq
  rw [List.append_assoc, List.append_assoc] at hq
  cases q with
  | false => exact br_t rfl (cs_270 (q := false) hd ho hH hm hk hZ hq H)
  | true =>
    refine br_f (by decide) ?_
    exact cs_exp ho hH hq (fun y hy => cs_270 (q := true) hd ho hH hm hk hZ hy H)
theorem cs_206 {post : Int32 → St0 → Prop} {mc ms kc ks : Nat} {x0 x1 : Int32} {d m k : Nat} (hd : d < 8) (hm : m < 4) (hk : k < 4) (hH : cs_H (cs_out d (cs_dg x0) m (cs_dg x1) k) a5) (hP : post 1 ()) :
    ∃ fu, wL_lawOf_206 post mc ms x0 x1 (nI d) (nI m) (nI k) (nI (cs_sp d)) (cs_b (cs_qn (cs_sp d) (cs_dg x0) m)) (cs_b (cs_qn (cs_sp d) (cs_dg x1) k)) (nI 2) (nI (cs_out d (cs_dg x0) m (cs_dg x1) k).length) kc ks (nI 2) dr (nI (cs_out d (cs_dg x0) m (cs_dg x1) k).length) pt kp st gr gf gs ff rg hl fl sd a1 a2 a3 a4 a5 fu 0 0 := by
  have ho := cs_out_len d (cs_dg x0) m (cs_dg x1) k hm hk
  refine ⟨3, ?_⟩
  refine pk_le 2 0 (fun z => absurd z (by omega)) (fun _ => br_t rfl (br_f (by decide) ?_))
  refine cs_245 (f := 0) (c := m) (Z := cs_dg x0) hd ho hH hm hk (Or.inl ⟨rfl, rfl, rfl⟩) (cs_Q0 _) (fun y1 hq1 => ?_)
  refine pk_le 2 1 (fun z => absurd z (by omega)) (fun _ => br_f (by decide) (br_t rfl ?_))
  refine cs_exp ho hH hq1 (fun y2 hq2 => ?_)
  refine cs_245 (f := 1) (c := k) (Z := cs_dg x1) hd ho hH hm hk (Or.inr ⟨rfl, rfl, rfl⟩) hq2 (fun y3 hq3 => ?_)
  exact pk_le 2 2 (fun _ => cs_416 hd hm hk hH hP hq3) (fun z => absurd z (by omega))
end
section
variable {ct dr rw pt kp st gr gf gs ff rg hl fl sd : Int32} {a1 a2 a3 a4 a5 : Nat → Int32}
theorem cs_121 {post : Int32 → St0 → Prop} {mc ms kc ks : Nat} {x0 x1 : Int32} {d m k : Nat} (hd : d < 8) (hm : m < 4) (hk : k < 4) (hP : post 1 ()) (h1 : a1 0 = nI 1) (hf : cs_f a2 a3 0 (cs_dg x0) m) :
    ∃ fu, wL_lawOf_121 post mc ms x0 x1 (nI d) (nI m) (nI k) (nI (cs_sp d)) (cs_b (cs_qn (cs_sp d) (cs_dg x0) m)) kc ks fu 0 0 (nI 1) 0 rw pt kp st gr gf gs ff rg hl fl sd a1 a2 a3 a4 a5 := by
  refine Exists.elim (pk_loop (σ := Nat → Int32) (fun n i s => wL_lawOf_121 post mc ms x0 x1 (nI d) (nI m) (nI k) (nI (cs_sp d)) (cs_b (cs_qn (cs_sp d) (cs_dg x0) m)) kc ks n (cs_b (cs_qn (cs_sp d) (cs_dg x1) (min i k))) (nI i) (nI 1) (nI (min i k)) rw pt kp st gr gf gs ff rg hl fl sd a1 a2 a3 s a5) (fun i s => ∀ j, j < min i k → s j = nI (cs_dg x1 j)) 3 0 a4 (by omega) (fun j hj => absurd hj (by omega)) ?_ ?_) (fun n hn => ?_)
  rotate_left 2
  · have hn' : wL_lawOf_121 post mc ms x0 x1 (nI d) (nI m) (nI k) (nI (cs_sp d)) (cs_b (cs_qn (cs_sp d) (cs_dg x0) m)) kc ks n (cs_b (cs_qn (cs_sp d) (cs_dg x1) (min 0 k))) (nI 0) (nI 1) (nI (min 0 k)) rw pt kp st gr gf gs ff rg hl fl sd a1 a2 a3 a4 a5 := hn
    rw [Nat.zero_min] at hn'
    exact ⟨n, hn'⟩
  · intro n s h
    have e3 : min 3 k = k := by omega
    show wL_lawOf_121 post mc ms x0 x1 (nI d) (nI m) (nI k) (nI (cs_sp d)) (cs_b (cs_qn (cs_sp d) (cs_dg x0) m)) kc ks (n + 1) (cs_b (cs_qn (cs_sp d) (cs_dg x1) (min 3 k))) (nI 3) (nI 1) (nI (min 3 k)) rw pt kp st gr gf gs ff rg hl fl sd a1 a2 a3 s a5
    rw [e3] at h ⊢
    refine pk_le 3 3 (fun _ => ?_) (fun z => absurd z (by omega))
    refine cs_field (m := k) (by omega) h1 (fun b3 g1 g2 v => ?_)
    refine cs_addRow (c := 1) (m := 0) (by omega) (by omega) (fun c3 e1 e2 => ?_)
    have hT : cs_T (cs_dg x0) m (cs_dg x1) k (upd (upd a1 0 (nI 2)) 1 (nI 1)) (upd (upd a2 1 (nI k)) (1 * 5) (nI 0)) c3 := by
      refine ⟨by rw [pk_un (by omega), pk_us], pk_us, ⟨?_, fun i hi => ?_⟩, ⟨?_, fun i hi => ?_⟩, ⟨pk_us, lt_0⟩⟩
      · rw [pk_un (by omega), pk_un (by omega)]
        exact hf.1
      · rw [e2 _ (by omega), g2 _ (by omega)]
        exact hf.2 i hi
      · rw [pk_un (by omega), pk_us]
      · rw [e2 _ (by omega), g1 i hi]
        exact h i hi
    refine cs_write hd hm hk (cs_dg_lt x0) (cs_dg_lt x1) hT (fun b5 hH => ?_)
    exact cs_206 hd hm hk hH hP
  · intro n i s hi h hw
    have hy := cs_dg_lt x1 i
    have hsp := cs_sp_le d
    have t0 : ∀ s' : Nat → Int32, (∀ j, j < min (i + 1) k → s' j = nI (cs_dg x1 j)) → wL_lawOf_121 post mc ms x0 x1 (nI d) (nI m) (nI k) (nI (cs_sp d)) (cs_b (cs_qn (cs_sp d) (cs_dg x0) m)) kc ks n (cs_b (cs_qn (cs_sp d) (cs_dg x1) (min (i + 1) k))) (nI (i + 1)) (nI 1) (nI (min (i + 1) k)) rw pt kp st gr gf gs ff rg hl fl sd a1 a2 a3 s' a5 := hw
    show wL_lawOf_121 post mc ms x0 x1 (nI d) (nI m) (nI k) (nI (cs_sp d)) (cs_b (cs_qn (cs_sp d) (cs_dg x0) m)) kc ks (n + 1) (cs_b (cs_qn (cs_sp d) (cs_dg x1) (min i k))) (nI i) (nI 1) (nI (min i k)) rw pt kp st gr gf gs ff rg hl fl sd a1 a2 a3 s a5
    refine pk_le 3 i (fun z => absurd z (by omega)) (fun _ => ?_)
    refine cs_digit ?_
    refine pk_le k i (fun z => nm_r (nI_1 i) ?_) (fun z => ?_)
    · rw [show min (i + 1) k = min i k by omega] at t0
      exact t0 s h
    · rw [show min (i + 1) k = i + 1 by omega] at t0
      rw [show min i k = i by omega] at h ⊢
      have t2 := t0 (upd s i (nI (cs_dg x1 i))) (fun j hj => by
        by_cases e : j = i
        · rw [e, pk_us]
        · rw [pk_un e]
          exact h j (by omega))
      rw [cs_qn_s] at t2
      refine cs_draft hy (by omega) ?_
      cases g : cs_qn (cs_sp d) (cs_dg x1) i with
      | true =>
        rw [g] at t2
        exact br_f (by decide) (nm_r (nI_1 i) t2)
      | false =>
        rw [g] at t2
        refine br_t rfl (pk_lt 6 (cs_dg x1 i) (fun w => nm_r (nI_1 i) ?_) (fun w => pk_eq (cs_dg x1 i) (cs_sp d) (fun w2 => nm_r (nI_1 i) ?_) (fun w2 => nm_r (nI_1 i) ?_)))
        · rw [cs_bad_t (Or.inl (by omega))] at t2
          exact t2
        · rw [cs_bad_t (Or.inr w2)] at t2
          exact t2
        · rw [cs_bad_f (by omega) w2] at t2
          exact t2
theorem cs_53 {post : Int32 → St0 → Prop} {mc ms kc ks : Nat} {x0 x1 : Int32} {d m k : Nat} (hd : d < 8) (hm : m < 4) (hk : k < 4) (hP : post 1 ()) :
    ∃ fu, wL_lawOf_53 post mc ms x0 x1 (nI d) (nI m) (nI k) (nI (cs_sp d)) 0 kc ks fu 0 0 (nI 0) 0 rw pt kp st gr gf gs ff rg hl fl sd a1 a2 a3 a4 a5 := by
  refine Exists.elim (pk_loop (σ := Nat → Int32) (fun n i s => wL_lawOf_53 post mc ms x0 x1 (nI d) (nI m) (nI k) (nI (cs_sp d)) 0 kc ks n (cs_b (cs_qn (cs_sp d) (cs_dg x0) (min i m))) (nI i) (nI 0) (nI (min i m)) rw pt kp st gr gf gs ff rg hl fl sd a1 a2 a3 s a5) (fun i s => ∀ j, j < min i m → s j = nI (cs_dg x0 j)) 3 0 a4 (by omega) (fun j hj => absurd hj (by omega)) ?_ ?_) (fun n hn => ?_)
  rotate_left 2
  · have hn' : wL_lawOf_53 post mc ms x0 x1 (nI d) (nI m) (nI k) (nI (cs_sp d)) 0 kc ks n (cs_b (cs_qn (cs_sp d) (cs_dg x0) (min 0 m))) (nI 0) (nI 0) (nI (min 0 m)) rw pt kp st gr gf gs ff rg hl fl sd a1 a2 a3 a4 a5 := hn
    rw [Nat.zero_min] at hn'
    exact ⟨n, hn'⟩
  · intro n s h
    have e3 : min 3 m = m := by omega
    show wL_lawOf_53 post mc ms x0 x1 (nI d) (nI m) (nI k) (nI (cs_sp d)) 0 kc ks (n + 1) (cs_b (cs_qn (cs_sp d) (cs_dg x0) (min 3 m))) (nI 3) (nI 0) (nI (min 3 m)) rw pt kp st gr gf gs ff rg hl fl sd a1 a2 a3 s a5
    rw [e3] at h ⊢
    refine pk_le 3 3 (fun _ => ?_) (fun z => absurd z (by omega))
    refine cs_addRow (c := 0) (m := m) (by omega) (by omega) (fun c3 e1 e2 => ?_)
    exact cs_121 hd hm hk hP pk_us ⟨pk_us, fun i hi => by rw [← h i hi]; exact e1 i hi⟩
  · intro n i s hi h hw
    have hy := cs_dg_lt x0 i
    have hsp := cs_sp_le d
    have t0 : ∀ s' : Nat → Int32, (∀ j, j < min (i + 1) m → s' j = nI (cs_dg x0 j)) → wL_lawOf_53 post mc ms x0 x1 (nI d) (nI m) (nI k) (nI (cs_sp d)) 0 kc ks n (cs_b (cs_qn (cs_sp d) (cs_dg x0) (min (i + 1) m))) (nI (i + 1)) (nI 0) (nI (min (i + 1) m)) rw pt kp st gr gf gs ff rg hl fl sd a1 a2 a3 s' a5 := hw
    show wL_lawOf_53 post mc ms x0 x1 (nI d) (nI m) (nI k) (nI (cs_sp d)) 0 kc ks (n + 1) (cs_b (cs_qn (cs_sp d) (cs_dg x0) (min i m))) (nI i) (nI 0) (nI (min i m)) rw pt kp st gr gf gs ff rg hl fl sd a1 a2 a3 s a5
    refine pk_le 3 i (fun z => absurd z (by omega)) (fun _ => ?_)
    refine cs_digit ?_
    refine pk_le m i (fun z => nm_r (nI_1 i) ?_) (fun z => ?_)
    · rw [show min (i + 1) m = min i m by omega] at t0
      exact t0 s h
    · rw [show min (i + 1) m = i + 1 by omega] at t0
      rw [show min i m = i by omega] at h ⊢
      have t2 := t0 (upd s i (nI (cs_dg x0 i))) (fun j hj => by
        by_cases e : j = i
        · rw [e, pk_us]
        · rw [pk_un e]
          exact h j (by omega))
      rw [cs_qn_s] at t2
      refine cs_draft hy (by omega) ?_
      cases g : cs_qn (cs_sp d) (cs_dg x0) i with
      | true =>
        rw [g] at t2
        exact br_f (by decide) (nm_r (nI_1 i) t2)
      | false =>
        rw [g] at t2
        refine br_t rfl (pk_lt 6 (cs_dg x0 i) (fun w => nm_r (nI_1 i) ?_) (fun w => pk_eq (cs_dg x0 i) (cs_sp d) (fun w2 => nm_r (nI_1 i) ?_) (fun w2 => nm_r (nI_1 i) ?_)))
        · rw [cs_bad_t (Or.inl (by omega))] at t2
          exact t2
        · rw [cs_bad_t (Or.inr w2)] at t2
          exact t2
        · rw [cs_bad_f (by omega) w2] at t2
          exact t2
theorem cs_lawOf {post : Int32 → St0 → Prop} {p0 p1 p2 : Int32} (hP : post 1 ()) : wpL_lawOf post 180 2864 () p0 p1 p2 := by
  obtain ⟨d, hd, ed⟩ := pk_andE p2 (m := 7) 3 (by decide)
  obtain ⟨m, hm, em⟩ := pk_andE (p2 >>> ((3 : Int32) &&& 31)) (m := 3) 2 (by decide)
  obtain ⟨k, hk, ek⟩ := pk_andE (p2 >>> ((5 : Int32) &&& 31)) (m := 3) 2 (by decide)
  refine ⟨by omega, by omega, 5, 318, by omega, by omega, ?_⟩
  refine ⟨by omega, by omega, by omega, by omega, by omega, by omega, by omega, by omega, by omega, by omega, ?_⟩
  refine nm_r ed (nm_r em (nm_r ek ?_))
  refine ek_if (cs_bit1 d hd) (fun z => ?_) (fun z => ?_)
  · have e : (6 : Int32) = nI (cs_sp d) := by unfold cs_sp; rw [z]; rfl
    rw [e]
    exact cs_53 hd hm hk hP
  · have e : (5 : Int32) = nI (cs_sp d) := by unfold cs_sp; rw [show d % 2 = 0 by omega]; rfl
    rw [e]
    exact cs_53 hd hm hk hP
theorem cs_cell {post : Int32 → Prop} {L i : Nat} {xs : Nat → Int32} (hL : L ≤ 3) (hi : i < 3) (H : ∀ v, post v) : wpL_cellAt post L xs () (nI i) :=
  pk_le L i (fun _ => H _) (fun z => ⟨pk_in i L z, H _⟩)
theorem i_vc (xs : Nat → Int32) (L : Nat) (hL : L ≤ 3) : wpL_law (fun r => r = 1) L xs := by
  refine cs_cell (i := 0) hL (by omega) (fun v0 => ?_)
  refine cs_cell (i := 1) hL (by omega) (fun v1 => ?_)
  refine cs_cell (i := 2) hL (by omega) (fun v2 => ?_)
  exact ⟨180, 2864, by omega, by omega, cs_lawOf rfl⟩
end
