section
/-! sequences as they are meant: approximations by lists, no heap in sight -/
abbrev gc_Ev : Type := (Nat → Int32) × (Nat → Int32) × (Nat → Int32)
def gc_k (e : gc_Ev) (s : Nat) : Nat := (e.1 s).toNatClampNeg
def gc_a (e : gc_Ev) (s : Nat) : Nat := (e.2.1 s).toNatClampNeg
def gc_b (e : gc_Ev) (s : Nat) : Nat := (e.2.2 s).toNatClampNeg
def gc_l (e : gc_Ev) (s : Nat) : Nat := if gc_k e s = 5 then gc_b e s else gc_a e s
def gc_p0 (e : gc_Ev) (s : Nat) : Int32 := if gc_k e s = 0 ∨ gc_k e s = 5 then e.2.1 s else 0
def gc_q0 (e : gc_Ev) (s : Nat) : Int32 := if gc_k e s = 0 then e.2.2 s else 0
def gc_hd (κ : Nat) (p v w : Int32) : Int32 := if κ = 0 then p else if κ = 5 then p * v else if κ = 6 then p + v else if κ = 7 then v else if κ = 3 then v + w else if κ = 4 then v * w else if w ≤ v then w else v
def gc_np (κ : Nat) (p q v : Int32) : Int32 := if κ = 0 then p + q else if κ = 5 then p else if κ = 6 then p + v else 0
def gc_nq (κ : Nat) (q : Int32) : Int32 := if κ = 0 then q else 0
/-- one list is enough -/
def gc_one (κ : Nat) : Prop := κ = 0 ∨ κ = 5 ∨ κ = 6 ∨ κ = 7
def gc_dl (κ : Nat) (v w : Int32) : Nat := if κ = 8 ∧ w < v then 0 else 1
def gc_dr (κ : Nat) (v w : Int32) : Nat := if κ = 8 ∧ v < w then 0 else 1
def gc_nl (κ : Nat) (l r : List Int32) : List Int32 := if κ = 7 then r else l.drop (gc_dl κ (l.headD 0) (r.headD 0))
def gc_nr (κ : Nat) (l r : List Int32) : List Int32 := if κ = 7 then l.drop 1 else r.drop (gc_dr κ (l.headD 0) (r.headD 0))
def gc_ok (κ : Nat) (l r : List Int32) : Prop := (κ = 0 ∨ l ≠ []) ∧ (gc_one κ ∨ r ≠ [])
noncomputable def gc_gen (κ : Nat) : Nat → Int32 → Int32 → List Int32 → List Int32 → List Int32
  | 0, _, _, _, _ => []
  | m + 1, p, q, l, r => @ite _ (gc_ok κ l r) (Classical.propDecidable _) (gc_hd κ p (l.headD 0) (r.headD 0) :: gc_gen κ m (gc_np κ p q (l.headD 0)) (gc_nq κ q) (gc_nl κ l r) (gc_nr κ l r)) []
theorem gc_gen_t {κ m : Nat} {p q : Int32} {l r : List Int32} (h : gc_ok κ l r) : gc_gen κ (m + 1) p q l r = gc_hd κ p (l.headD 0) (r.headD 0) :: gc_gen κ m (gc_np κ p q (l.headD 0)) (gc_nq κ q) (gc_nl κ l r) (gc_nr κ l r) := by
  rw [gc_gen]; exact if_pos h
theorem gc_gen_f {κ m : Nat} {p q : Int32} {l r : List Int32} (h : ¬ gc_ok κ l r) : gc_gen κ (m + 1) p q l r = [] := by
  rw [gc_gen]; exact if_neg h
theorem gc_gen_ne {κ m : Nat} {p q : Int32} {l r : List Int32} (h : gc_gen κ m p q l r ≠ []) : 0 < m ∧ gc_ok κ l r := by
  cases m with
  | zero => exact absurd rfl h
  | succ m =>
    refine ⟨Nat.succ_pos m, Classical.byContradiction fun z => h (gc_gen_f z)⟩
theorem gc_pdrop {l l2 : List Int32} (h : l <+: l2) (i : Nat) : l.drop i <+: l2.drop i := by
  obtain ⟨t, rfl⟩ := h
  exact ⟨_, List.drop_append.symm⟩
theorem gc_phead {l l2 : List Int32} (h : l <+: l2) (hl : l ≠ []) : l2.headD 0 = l.headD 0 := by
  obtain ⟨t, rfl⟩ := h
  cases l with
  | nil => exact absurd rfl hl
  | cons a l => rfl
theorem gc_hd_w {κ : Nat} (h : gc_one κ) (p v w w' : Int32) : gc_hd κ p v w = gc_hd κ p v w' := by
  rcases h with h | h | h | h <;> subst h <;> simp [gc_hd]
theorem gc_hd_0 (p v w : Int32) : gc_hd 0 p v w = p := if_pos rfl
theorem gc_np_0 (p q v : Int32) : gc_np 0 p q v = p + q := if_pos rfl
theorem gc_dl_n {κ : Nat} (h : κ ≠ 8) (v w : Int32) : gc_dl κ v w = 1 := if_neg (fun z => h z.1)
theorem gc_dr_n {κ : Nat} (h : κ ≠ 8) (v w : Int32) : gc_dr κ v w = 1 := if_neg (fun z => h z.1)
theorem gc_dl_le (κ : Nat) (v w : Int32) : gc_dl κ v w ≤ 1 := by unfold gc_dl; split <;> omega
theorem gc_dr_le (κ : Nat) (v w : Int32) : gc_dr κ v w ≤ 1 := by unfold gc_dr; split <;> omega
theorem gc_one8 {κ : Nat} (h : gc_one κ) : κ ≠ 8 := by rcases h with h | h | h | h <;> omega
/-- the heads may be named by any v, w that they are, where they count -/
theorem gc_gen_v {κ m : Nat} {p q v w : Int32} {l r : List Int32} (h : gc_ok κ l r) (hv : κ = 0 ∨ l.headD 0 = v) (hw : gc_one κ ∨ r.headD 0 = w) :
    gc_gen κ (m + 1) p q l r = gc_hd κ p v w :: gc_gen κ m (gc_np κ p q v) (gc_nq κ q) (if κ = 7 then r else l.drop (gc_dl κ v w)) (if κ = 7 then l.drop 1 else r.drop (gc_dr κ v w)) := by
  rw [gc_gen_t h]
  unfold gc_nl gc_nr
  rcases hv with h0 | hv
  · subst h0
    rw [gc_hd_0, gc_hd_0, gc_np_0, gc_np_0, gc_dl_n (by omega), gc_dl_n (by omega), gc_dr_n (by omega), gc_dr_n (by omega)]
  · rw [hv]
    rcases hw with h1 | hw
    · have h8 := gc_one8 h1
      rw [gc_hd_w h1 p v (r.headD 0) w, gc_dl_n h8, gc_dl_n h8, gc_dr_n h8, gc_dr_n h8]
    · rw [hw]
theorem gc_ok_mono {κ : Nat} {l r l2 r2 : List Int32} (h : gc_ok κ l r) (hl : l <+: l2) (hr : r <+: r2) : gc_ok κ l2 r2 :=
  ⟨h.1.imp id (fun z => hl.ne_nil z), h.2.imp id (fun z => hr.ne_nil z)⟩
theorem gc_gen_mono (κ : Nat) : ∀ (m m2 : Nat) (p q : Int32) (l r l2 r2 : List Int32), m ≤ m2 → l <+: l2 → r <+: r2 → gc_gen κ m p q l r <+: gc_gen κ m2 p q l2 r2 := by
  intro m
  induction m with
  | zero => intro m2 p q l r l2 r2 _ _ _; rw [gc_gen]; exact List.nil_prefix
  | succ m ih =>
    intro m2 p q l r l2 r2 hm hl hr
    obtain ⟨m3, rfl⟩ : ∃ m3, m2 = m3 + 1 := ⟨m2 - 1, by omega⟩
    by_cases h : gc_ok κ l r
    · rw [gc_gen_v (v := l.headD 0) (w := r.headD 0) h (Or.inr rfl) (Or.inr rfl), gc_gen_v (v := l.headD 0) (w := r.headD 0) (gc_ok_mono h hl hr) (h.1.imp id (fun z => gc_phead hl z)) (h.2.imp id (fun z => gc_phead hr z))]
      refine (List.prefix_cons_inj _).mpr (ih _ _ _ _ _ _ _ (by omega) ?_ ?_)
      · split
        · exact hr
        · exact gc_pdrop hl _
      · split
        · exact gc_pdrop hl _
        · exact gc_pdrop hr _
    · rw [gc_gen_f h]; exact List.nil_prefix
/-- the n-th approximation of sequence s -/
noncomputable def gc_E (e : gc_Ev) : Nat → Nat → List Int32
  | 0, _ => []
  | n + 1, s => if gc_k e s = 1 then e.2.1 s :: gc_E e n (gc_b e s) else if gc_k e s = 2 then (gc_E e n (gc_a e s)).drop 1 else gc_gen (gc_k e s) (n + 1) (gc_p0 e s) (gc_q0 e s) (gc_E e n (gc_l e s)) (gc_E e n (gc_b e s))
theorem gc_E1 {e : gc_Ev} {s : Nat} (n : Nat) (h : gc_k e s = 1) : gc_E e (n + 1) s = e.2.1 s :: gc_E e n (gc_b e s) := by
  rw [gc_E]; exact if_pos h
theorem gc_E2 {e : gc_Ev} {s : Nat} (n : Nat) (h : gc_k e s = 2) : gc_E e (n + 1) s = (gc_E e n (gc_a e s)).drop 1 := by
  rw [gc_E, if_neg (by omega)]; exact if_pos h
theorem gc_E3 {e : gc_Ev} {s : Nat} (n : Nat) (h : gc_k e s ≠ 1) (h2 : gc_k e s ≠ 2) : gc_E e (n + 1) s = gc_gen (gc_k e s) (n + 1) (gc_p0 e s) (gc_q0 e s) (gc_E e n (gc_l e s)) (gc_E e n (gc_b e s)) := by
  rw [gc_E, if_neg h]; exact if_neg h2
theorem gc_E_1 (e : gc_Ev) : ∀ n s, gc_E e n s <+: gc_E e (n + 1) s := by
  intro n
  induction n with
  | zero => intro s; rw [gc_E]; exact List.nil_prefix
  | succ n ih =>
    intro s
    by_cases h : gc_k e s = 1
    · rw [gc_E1 n h, gc_E1 (n + 1) h]; exact (List.prefix_cons_inj _).mpr (ih _)
    · by_cases h2 : gc_k e s = 2
      · rw [gc_E2 n h2, gc_E2 (n + 1) h2]; exact gc_pdrop (ih _) 1
      · rw [gc_E3 n h h2, gc_E3 (n + 1) h h2]; exact gc_gen_mono _ _ _ _ _ _ _ _ _ (by omega) (ih _) (ih _)
theorem gc_E_m (e : gc_Ev) (s : Nat) {n m : Nat} (h : n ≤ m) : gc_E e n s <+: gc_E e m s := by
  induction m with
  | zero => obtain rfl : n = 0 := by omega
            exact List.prefix_refl _
  | succ m ih =>
    by_cases z : n = m + 1
    · rw [z]; exact List.prefix_refl _
    · exact (ih (by omega)).trans (gc_E_1 e m s)
/-- place k of s has the value v -/
def gc_V (e : gc_Ev) (s k : Nat) (v : Int32) : Prop := ∃ n l, (gc_E e n s).drop k = v :: l
theorem gc_V_big {e : gc_Ev} {s k : Nat} {v : Int32} (h : gc_V e s k v) : ∃ N, ∀ n, N ≤ n → ∃ l, (gc_E e n s).drop k = v :: l := by
  obtain ⟨N, l, h⟩ := h
  refine ⟨N, fun n hn => ?_⟩
  obtain ⟨t, ht⟩ := gc_pdrop (gc_E_m e s hn) k
  rw [h] at ht
  exact ⟨l ++ t, ht.symm⟩
theorem gc_V_u {e : gc_Ev} {s k : Nat} {v w : Int32} (h : gc_V e s k v) (h' : gc_V e s k w) : v = w := by
  obtain ⟨N, h⟩ := gc_V_big h
  obtain ⟨M, h'⟩ := gc_V_big h'
  obtain ⟨l, e1⟩ := h (max N M) (Nat.le_max_left _ _)
  obtain ⟨l', e2⟩ := h' (max N M) (Nat.le_max_right _ _)
  rw [e1] at e2
  exact (List.cons.inj e2).1
theorem gc_V_h {e : gc_Ev} {s k n : Nat} {v : Int32} (h : gc_V e s k v) (hn : (gc_E e n s).drop k ≠ []) : ((gc_E e n s).drop k).headD 0 = v := by
  cases hc : (gc_E e n s).drop k with
  | nil => exact absurd hc hn
  | cons a l => exact gc_V_u ⟨n, l, hc⟩ h
theorem gc_ne {l : List Int32} {k : Nat} : l.drop k ≠ [] ↔ k < l.length := by
  rw [Ne, List.drop_eq_nil_iff]; omega
theorem gc_V_len {e : gc_Ev} {s k : Nat} {v : Int32} (h : gc_V e s k v) : ∃ n, k < (gc_E e n s).length := by
  obtain ⟨n, l, h⟩ := h
  exact ⟨n, gc_ne.mp (by rw [h]; exact List.cons_ne_nil _ _)⟩
theorem gc_V_of {e : gc_Ev} {s k n : Nat} (h : k < (gc_E e n s).length) : ∃ v, gc_V e s k v := by
  cases hc : (gc_E e n s).drop k with
  | nil => exact absurd hc (gc_ne.mpr h)
  | cons a l => exact ⟨a, n, l, hc⟩
theorem gc_len_m (e : gc_Ev) (s : Nat) {n m k : Nat} (h : n ≤ m) (hk : k ≤ (gc_E e n s).length) : k ≤ (gc_E e m s).length := Nat.le_trans hk (gc_E_m e s h).length_le
/-- the rest of s from k on is (an approximation of) the rest of t from j on, and back -/
def gc_al (e : gc_Ev) (s k t j : Nat) : Prop := (∀ n, (gc_E e n s).drop k <+: (gc_E e n t).drop j) ∧ (∀ n, ∃ m, (gc_E e n t).drop j <+: (gc_E e m s).drop k)
theorem gc_al_r (e : gc_Ev) (s k : Nat) : gc_al e s k s k := ⟨fun _ => List.prefix_refl _, fun n => ⟨n, List.prefix_refl _⟩⟩
theorem gc_al_t {e : gc_Ev} {s k t j u i : Nat} (h : gc_al e s k t j) (h' : gc_al e t j u i) : gc_al e s k u i := by
  refine ⟨fun n => (h.1 n).trans (h'.1 n), fun n => ?_⟩
  obtain ⟨m, hm⟩ := h'.2 n
  obtain ⟨m', hm'⟩ := h.2 m
  exact ⟨m', hm.trans hm'⟩
theorem gc_al_s {e : gc_Ev} {s k t j : Nat} (h : gc_al e s k t j) : gc_al e s (k + 1) t (j + 1) := by
  refine ⟨fun n => ?_, fun n => ?_⟩
  · rw [← List.drop_drop, ← List.drop_drop]; exact gc_pdrop (h.1 n) 1
  · obtain ⟨m, hm⟩ := h.2 n
    exact ⟨m, by rw [← List.drop_drop, ← List.drop_drop]; exact gc_pdrop hm 1⟩
theorem gc_al_len {e : gc_Ev} {s k t j : Nat} (h : gc_al e s k t j) {n : Nat} (hk : k < (gc_E e n s).length) : j < (gc_E e n t).length :=
  gc_ne.mp ((h.1 n).ne_nil (gc_ne.mpr hk))
theorem gc_al_V {e : gc_Ev} {s k t j : Nat} {v : Int32} (h : gc_al e s k t j) (hv : gc_V e t j v) : gc_V e s k v := by
  obtain ⟨n, l, hn⟩ := hv
  obtain ⟨m, x, hx⟩ := h.2 n
  rw [hn] at hx
  exact ⟨m, l ++ x, hx.symm⟩
/-- a cons: its rest is the rest it names -/
theorem gc_al_c {e : gc_Ev} {s : Nat} (h : gc_k e s = 1) : gc_al e s 1 (gc_b e s) 0 := by
  refine ⟨fun n => ?_, fun n => ⟨n + 1, ?_⟩⟩
  · cases n with
    | zero => rw [gc_E]; exact List.nil_prefix
    | succ n => rw [gc_E1 n h]; exact gc_E_1 e n _
  · rw [gc_E1 n h]; exact List.prefix_refl _
/-- a tail: it is the rest of what it names -/
theorem gc_al_d {e : gc_Ev} {s a : Nat} (h : ∀ m, gc_E e (m + 1) s = (gc_E e m a).drop 1) : gc_al e s 0 a 1 := by
  refine ⟨fun n => ?_, fun n => ⟨n + 1, ?_⟩⟩
  · cases n with
    | zero => rw [gc_E]; exact List.nil_prefix
    | succ n => rw [h n]; exact gc_pdrop (gc_E_1 e n a) 1
  · rw [h n]; exact List.prefix_refl _
/-- what a waiting computation of place j of t says: kind κ, numbers p and q, working on (a, i) and (b, c) -/
def gc_S (e : gc_Ev) (t j κ : Nat) (p q : Int32) (a i b c : Nat) : Prop := ∀ m, j ≤ (gc_E e (m + 1) t).length → (gc_E e (m + 1) t).drop j = gc_gen κ (m + 1 - j) p q ((gc_E e m a).drop i) ((gc_E e m b).drop c)
theorem gc_S_l {e : gc_Ev} {t j κ a i b c m : Nat} {p q : Int32} (h : gc_S e t j κ p q a i b c) (h0 : κ ≠ 0) (hj : j < (gc_E e (m + 1) t).length) : i < (gc_E e m a).length := by
  have hn := gc_ne.mpr hj
  rw [h m (by omega)] at hn
  exact gc_ne.mp ((gc_gen_ne hn).2.1.resolve_left h0)
theorem gc_S_r {e : gc_Ev} {t j κ a i b c m : Nat} {p q : Int32} (h : gc_S e t j κ p q a i b c) (h0 : ¬ gc_one κ) (hj : j < (gc_E e (m + 1) t).length) : c < (gc_E e m b).length := by
  have hn := gc_ne.mpr hj
  rw [h m (by omega)] at hn
  exact gc_ne.mp ((gc_gen_ne hn).2.2.resolve_left h0)
theorem gc_S_V {e : gc_Ev} {t j κ a i b c : Nat} {p q v w : Int32} (h : gc_S e t j κ p q a i b c) (hj : ∃ m, j ≤ (gc_E e m t).length) (hv : κ = 0 ∨ gc_V e a i v) (hw : gc_one κ ∨ gc_V e b c w) : gc_V e t j (gc_hd κ p v w) := by
  obtain ⟨M, hM⟩ := hj
  have H1 : ∃ N, ∀ n, N ≤ n → κ = 0 ∨ ∃ l, (gc_E e n a).drop i = v :: l := by
    rcases hv with hv | hv
    · exact ⟨0, fun n _ => Or.inl hv⟩
    · obtain ⟨N, hN⟩ := gc_V_big hv
      exact ⟨N, fun n hn => Or.inr (hN n hn)⟩
  have H2 : ∃ N, ∀ n, N ≤ n → gc_one κ ∨ ∃ l, (gc_E e n b).drop c = w :: l := by
    rcases hw with hw | hw
    · exact ⟨0, fun n _ => Or.inl hw⟩
    · obtain ⟨N, hN⟩ := gc_V_big hw
      exact ⟨N, fun n hn => Or.inr (hN n hn)⟩
  obtain ⟨N1, H1⟩ := H1
  obtain ⟨N2, H2⟩ := H2
  have h1 := H1 (N1 + N2 + M + j) (by omega)
  have h2 := H2 (N1 + N2 + M + j) (by omega)
  have hm := h (N1 + N2 + M + j) (gc_len_m e t (by omega) hM)
  have hok : gc_ok κ ((gc_E e (N1 + N2 + M + j) a).drop i) ((gc_E e (N1 + N2 + M + j) b).drop c) :=
    ⟨h1.imp id (fun ⟨l, z⟩ => by rw [z]; exact List.cons_ne_nil _ _), h2.imp id (fun ⟨l, z⟩ => by rw [z]; exact List.cons_ne_nil _ _)⟩
  rw [show N1 + N2 + M + j + 1 - j = N1 + N2 + M + 1 by omega, gc_gen_v (v := v) (w := w) hok (h1.imp id (fun ⟨l, z⟩ => by rw [z]; rfl)) (h2.imp id (fun ⟨l, z⟩ => by rw [z]; rfl))] at hm
  exact ⟨_, _, hm⟩
theorem gc_S_n {e : gc_Ev} {t j κ a i b c : Nat} {p q v w : Int32} (h : gc_S e t j κ p q a i b c) (hv : κ = 0 ∨ gc_V e a i v) (hw : gc_one κ ∨ gc_V e b c w) :
    gc_S e t (j + 1) κ (gc_np κ p q v) (gc_nq κ q) (if κ = 7 then b else a) (if κ = 7 then c else i + gc_dl κ v w) (if κ = 7 then a else b) (if κ = 7 then i + 1 else c + gc_dr κ v w) := by
  intro m hm
  have hn : (gc_E e (m + 1) t).drop j ≠ [] := gc_ne.mpr (by omega)
  have hq := h m (by omega)
  rw [hq] at hn
  obtain ⟨hm0, hok⟩ := gc_gen_ne hn
  have hv' : κ = 0 ∨ ((gc_E e m a).drop i).headD 0 = v := by
    by_cases z : κ = 0
    · exact Or.inl z
    · exact Or.inr (gc_V_h (hv.resolve_left z) (hok.1.resolve_left z))
  have hw' : gc_one κ ∨ ((gc_E e m b).drop c).headD 0 = w := by
    by_cases z : gc_one κ
    · exact Or.inl z
    · exact Or.inr (gc_V_h (hw.resolve_left z) (hok.2.resolve_left z))
  rw [← List.drop_drop, hq, show m + 1 - j = (m + 1 - (j + 1)) + 1 by omega, gc_gen_v hok hv' hw', List.drop_one, List.tail_cons, List.drop_drop, List.drop_drop, List.drop_drop]
  by_cases h7 : κ = 7
  · rw [if_pos h7, if_pos h7, if_pos h7, if_pos h7, if_pos h7, if_pos h7]
  · rw [if_neg h7, if_neg h7, if_neg h7, if_neg h7, if_neg h7, if_neg h7]
/-- at the start -/
theorem gc_S_0 {e : gc_Ev} {s : Nat} (h : gc_k e s ≠ 1) (h2 : gc_k e s ≠ 2) : gc_S e s 0 (gc_k e s) (gc_p0 e s) (gc_q0 e s) (gc_l e s) 0 (gc_b e s) 0 :=
  fun m _ => gc_E3 m h h2
/-- pigeons -/
theorem gc_pigeon : ∀ (n m : Nat) (f : Nat → Nat), (∀ i, i < m → f i < n) → (∀ i j, i < m → j < m → f i = f j → i = j) → m ≤ n := by
  intro n
  induction n with
  | zero =>
    intro m f h _
    cases m with
    | zero => exact Nat.le_refl 0
    | succ m => exact absurd (h 0 (by omega)) (by omega)
  | succ n ih =>
    intro m f h hi
    by_cases hx : ∃ i, i < m ∧ f i = n
    · obtain ⟨i, im, hin⟩ := hx
      have := ih (m - 1) (fun j => if j < i then f j else f (j + 1)) (fun j hj => by
        split
        · rename_i hji
          have h1 := h j (by omega)
          have h2 : f j ≠ n := fun z => absurd (hi j i (by omega) im (by rw [z, hin])) (by omega)
          omega
        · rename_i hji
          have h1 := h (j + 1) (by omega)
          have h2 : f (j + 1) ≠ n := fun z => absurd (hi (j + 1) i (by omega) im (by rw [z, hin])) (by omega)
          omega) (fun j j' hj hj' he => by
        by_cases c1 : j < i <;> by_cases c2 : j' < i
        · rw [if_pos c1, if_pos c2] at he
          exact hi j j' (by omega) (by omega) he
        · rw [if_pos c1, if_neg c2] at he
          have := hi j (j' + 1) (by omega) (by omega) he
          omega
        · rw [if_neg c1, if_pos c2] at he
          have := hi (j + 1) j' (by omega) (by omega) he
          omega
        · rw [if_neg c1, if_neg c2] at he
          have := hi (j + 1) (j' + 1) (by omega) (by omega) he
          omega)
      omega
    · have := ih m f (fun i hm => by
        have h1 := h i hm
        have h2 : f i ≠ n := fun z => hx ⟨i, hm, z⟩
        omega) hi
      omega
end
section
/-! the heap as a picture: n nodes, so kinds, lf and ri the pointers, nu and st the numbers, T and J: node x computes place J x of sequence T x -/
def gc_up (f : Nat → Nat) (k v : Nat) : Nat → Nat := fun j => if j = k then v else f j
theorem gc_us {f : Nat → Nat} {k v : Nat} : gc_up f k v k = v := if_pos rfl
theorem gc_un {f : Nat → Nat} {k v j : Nat} (h : j ≠ k) : gc_up f k v j = f j := if_neg h
def gc_fo (so lf : Nat → Nat) (x : Nat) : Nat := if so x = 10 then lf x else x
theorem gc_fo_n {so lf : Nat → Nat} {x : Nat} (h : so x ≠ 10) : gc_fo so lf x = x := if_neg h
theorem gc_fo_l {so lf : Nat → Nat} {x : Nat} (h : so x = 10) : gc_fo so lf x = lf x := if_pos h
/-- the node of place k of sequence s, if there is one yet -/
def gc_P (so lf : Nat → Nat) (s : Nat) : Nat → Option Nat
  | 0 => some (gc_fo so lf s)
  | k + 1 => match gc_P so lf s k with
    | none => none
    | some c => if so c = 9 then some (gc_fo so lf (lf c)) else none
theorem gc_P_s {so lf : Nat → Nat} {s k c : Nat} (h : gc_P so lf s k = some c) (hc : so c = 9) : gc_P so lf s (k + 1) = some (gc_fo so lf (lf c)) := by
  rw [gc_P, h]; exact if_pos hc
theorem gc_P_i {so lf : Nat → Nat} {s k y : Nat} (h : gc_P so lf s (k + 1) = some y) : ∃ c, gc_P so lf s k = some c ∧ so c = 9 ∧ y = gc_fo so lf (lf c) := by
  rw [gc_P] at h
  cases hc : gc_P so lf s k with
  | none => rw [hc] at h; exact absurd h (by intro z; cases z)
  | some c =>
    rw [hc] at h
    dsimp only at h
    by_cases z : so c = 9
    · rw [if_pos z] at h
      exact ⟨c, rfl, z, (Option.some.inj h).symm⟩
    · rw [if_neg z] at h
      exact absurd h (by intro z; cases z)
theorem gc_P_b {so lf : Nat → Nat} {s k : Nat} : ∀ {d y : Nat}, gc_P so lf s (k + 1 + d) = some y → ∃ c, gc_P so lf s k = some c ∧ so c = 9 := by
  intro d
  induction d with
  | zero =>
    intro y h
    obtain ⟨c, h1, h2, _⟩ := gc_P_i h
    exact ⟨c, h1, h2⟩
  | succ d ih =>
    intro y h
    obtain ⟨c, h1, _, _⟩ := gc_P_i (k := k + 1 + d) h
    exact ih h1
theorem gc_P_lt {so lf : Nat → Nat} {s k k' y y' : Nat} (h : gc_P so lf s k = some y) (h' : gc_P so lf s k' = some y') (hk : k < k') : so y = 9 := by
  obtain ⟨c, h1, h2⟩ := gc_P_b (k := k) (d := k' - (k + 1)) (by rw [show k + 1 + (k' - (k + 1)) = k' by omega]; exact h')
  rw [h] at h1
  rw [Option.some.inj h1]
  exact h2
def gc_sus (so : Nat → Nat) (x : Nat) : Prop := so x ≠ 9 ∧ so x ≠ 10
theorem gc_P_u {so lf : Nat → Nat} {s k k' y y' : Nat} (h : gc_P so lf s k = some y) (h' : gc_P so lf s k' = some y') (hy : gc_sus so y) (hy' : gc_sus so y') : k = k' := by
  rcases Nat.lt_trichotomy k k' with z | z | z
  · exact absurd (gc_P_lt h h' z) hy.1
  · exact z
  · exact absurd (gc_P_lt h' h z) hy'.1
/-- a link -/
def gc_lk (e : gc_Ev) (so lf T J : Nat → Nat) (x : Nat) : Prop :=
  gc_k e (T x) = 2 ∧ J x = 0 ∧ so (lf x) = 9 ∧ gc_al e (T x) 0 (T (lf x)) (J (lf x)) ∧ ∀ u, u ≤ J (lf x) → ∃ s, s < 6 ∧ gc_P so lf s u = some (lf x)
/-- a waiting computation that is no tail -/
def gc_w (e : gc_Ev) (so lf ri : Nat → Nat) (nu st : Nat → Int32) (T J : Nat → Nat) (x : Nat) : Prop :=
  ∃ a i b c, a < 6 ∧ b < 6 ∧ i ≤ J x ∧ c ≤ J x ∧ gc_S e (T x) (J x) (so x) (nu x) (st x) a i b c ∧ (so x ≠ 0 → gc_P so lf a i = some (gc_fo so lf (lf x))) ∧ (so x = 0 ∨ so x = 5 ∨ so x = 6 ∨ gc_P so lf b c = some (gc_fo so lf (ri x)))
/-- a waiting tail -/
def gc_wt (e : gc_Ev) (so lf T J : Nat → Nat) (x : Nat) : Prop :=
  J x = 0 ∧ ∃ a, a < 6 ∧ (∀ m, gc_E e (m + 1) (T x) = (gc_E e m a).drop 1) ∧ gc_P so lf a 0 = some (gc_fo so lf (lf x))
/-- a finished cell -/
def gc_ce (e : gc_Ev) (lf : Nat → Nat) (nu : Nat → Int32) (T J : Nat → Nat) (x : Nat) : Prop :=
  gc_V e (T x) (J x) (nu x) ∧ ((gc_k e (T x) = 1 ∧ J x = 0 ∧ lf x = gc_b e (T x) ∧ lf x < 6) ∨ (gc_k e (T x) ≠ 1 ∧ gc_k e (T x) ≠ 2 ∧ T (lf x) = T x ∧ J (lf x) = J x + 1))
def gc_H (e : gc_Ev) (n : Nat) (so lf ri : Nat → Nat) (nu st : Nat → Int32) (T J : Nat → Nat) : Prop :=
  6 ≤ n ∧
  (∀ x, x < n → T x < 6 ∧ J x ≤ 22 ∧ lf x < n ∧ ri x < n ∧ ∃ m, J x ≤ (gc_E e m (T x)).length) ∧
  (∀ x, x < 6 → T x = x ∧ J x = 0) ∧
  (∀ x y, x < n → y < n → T x = T y → J x = J y → x = y) ∧
  (∀ x y, x < n → y < n → gc_sus so x → T y = T x → J y ≤ J x) ∧
  (∀ x, x < n → so x = 9 → gc_ce e lf nu T J x) ∧
  (∀ x, x < n → so x = 10 → gc_lk e so lf T J x) ∧
  (∀ x, x < n → gc_sus so x → so x = gc_k e (T x) ∧ so x ≤ 8 ∧ so x ≠ 1 ∧ (so x ≠ 2 → gc_w e so lf ri nu st T J x) ∧ (so x = 2 → gc_wt e so lf T J x))
section
variable {e : gc_Ev} {n : Nat} {so lf ri : Nat → Nat} {nu st : Nat → Int32} {T J : Nat → Nat}
/-- what a place of a sequence knows of its node -/
def gc_at (e : gc_Ev) (n : Nat) (so lf T J : Nat → Nat) (s k y : Nat) : Prop :=
  y < n ∧ so y ≠ 10 ∧ gc_al e s k (T y) (J y) ∧ (∀ u, k ≤ u → u ≤ J y → ∃ s', s' < 6 ∧ gc_P so lf s' u = some y)
theorem gc_pos0 (H : gc_H e n so lf ri nu st T J) {z : Nat} (hz : z < 6) : gc_at e n so lf T J z 0 (gc_fo so lf z) := by
  obtain ⟨h1, h2, h3, h4, h5, h6, h7, h8⟩ := H
  by_cases c : so z = 10
  · rw [gc_fo_l c]
    obtain ⟨k1, k2, k3, k4, k5⟩ := h7 z (by omega) c
    refine ⟨(h2 z (by omega)).2.2.1, by omega, ?_, fun u _ hu => k5 u hu⟩
    have := k4
    rw [(h3 z hz).1] at this
    exact this
  · rw [gc_fo_n c]
    refine ⟨by omega, c, ?_, fun u _ hu => ⟨z, hz, ?_⟩⟩
    · rw [(h3 z hz).1, (h3 z hz).2]; exact gc_al_r e z 0
    · rw [(h3 z hz).2] at hu
      obtain rfl : u = 0 := by omega
      rw [gc_P, gc_fo_n c]
theorem gc_pos (H : gc_H e n so lf ri nu st T J) {s : Nat} (hs : s < 6) : ∀ {k y : Nat}, gc_P so lf s k = some y → gc_at e n so lf T J s k y := by
  intro k
  induction k with
  | zero =>
    intro y h
    rw [gc_P] at h
    rw [← Option.some.inj h]
    exact gc_pos0 H hs
  | succ k ih =>
    intro y h
    obtain ⟨c, hc, c9, hy⟩ := gc_P_i h
    obtain ⟨i1, i2, i3, i4⟩ := ih hc
    have H' := H
    obtain ⟨h1, h2, h3, h4, h5, h6, h7, h8⟩ := H'
    obtain ⟨_, q | q⟩ := h6 c i1 c9
    · obtain ⟨q1, q2, q3, q4⟩ := q
      obtain ⟨p1, p2, p3, p4⟩ := gc_pos0 H q4
      rw [hy]
      refine ⟨p1, p2, ?_, fun u _ hu => p4 u (by omega) hu⟩
      have t1 := gc_al_s i3
      rw [q2] at t1
      have t2 := gc_al_c q1
      rw [← q3] at t2
      exact gc_al_t (gc_al_t t1 t2) p3
    · obtain ⟨q1, q2, q3, q4⟩ := q
      have b := h2 c i1
      have hf : so (lf c) ≠ 10 := by
        intro z
        obtain ⟨k1, _⟩ := h7 (lf c) b.2.2.1 z
        rw [q3] at k1
        exact q2 k1
      rw [gc_fo_n hf] at hy
      rw [hy]
      refine ⟨b.2.2.1, hf, ?_, fun u hu1 hu2 => ?_⟩
      · rw [q3, q4]; exact gc_al_s i3
      · rw [q4] at hu2
        obtain ⟨s', hs', hp⟩ := i4 (u - 1) (by omega) (by omega)
        refine ⟨s', hs', ?_⟩
        have := gc_P_s hp c9
        rw [show u - 1 + 1 = u by omega, gc_fo_n hf] at this
        exact this
theorem gc_fo_lt (H : gc_H e n so lf ri nu st T J) {z : Nat} (hz : z < n) : gc_fo so lf z < n ∧ so (gc_fo so lf z) ≠ 10 := by
  obtain ⟨h1, h2, h3, h4, h5, h6, h7, h8⟩ := H
  by_cases c : so z = 10
  · rw [gc_fo_l c]
    have := (h7 z hz c).2.2.1
    exact ⟨(h2 z hz).2.2.1, by omega⟩
  · rw [gc_fo_n c]; exact ⟨hz, c⟩
theorem gc_at_V (H : gc_H e n so lf ri nu st T J) {s k y : Nat} (hs : s < 6) (h : gc_P so lf s k = some y) (hy : so y = 9) : gc_V e s k (nu y) := by
  obtain ⟨p1, _, p3, _⟩ := gc_pos H hs h
  exact gc_al_V p3 (H.2.2.2.2.2.1 y p1 hy).1
/-- cells and links stay -/
def gc_ext (n : Nat) (so lf so' lf' : Nat → Nat) : Prop := ∀ c, c < n → (so c = 9 → so' c = 9 ∧ lf' c = lf c) ∧ (so c = 10 → so' c = 10 ∧ lf' c = lf c)
theorem gc_fo_ext {so' lf' : Nat → Nat} (H : gc_H e n so lf ri nu st T J) (X : gc_ext n so lf so' lf') {z : Nat} (hz : z < n) : gc_fo so' lf' (gc_fo so lf z) = gc_fo so' lf' z := by
  obtain ⟨h1, h2, h3, h4, h5, h6, h7, h8⟩ := H
  by_cases c : so z = 10
  · obtain ⟨x1, x2⟩ := (X z hz).2 c
    have h9 := (h7 z hz c).2.2.1
    have x3 := ((X (lf z) (h2 z hz).2.2.1).1 h9).1
    rw [gc_fo_l c, gc_fo_l x1, x2, gc_fo_n (by omega)]
  · rw [gc_fo_n c]
theorem gc_P_ext {so' lf' : Nat → Nat} (H : gc_H e n so lf ri nu st T J) (X : gc_ext n so lf so' lf') {s : Nat} (hs : s < 6) : ∀ {k y : Nat}, gc_P so lf s k = some y → gc_P so' lf' s k = some (gc_fo so' lf' y) := by
  intro k
  induction k with
  | zero =>
    intro y h
    rw [gc_P] at h
    rw [← Option.some.inj h, gc_P, gc_fo_ext H X (by have := H.1; omega)]
  | succ k ih =>
    intro y h
    obtain ⟨c, hc, c9, hy⟩ := gc_P_i h
    have hn := (gc_pos H hs hc).1
    obtain ⟨x1, x2⟩ := (X c hn).1 c9
    have := ih hc
    rw [gc_fo_n (by omega)] at this
    rw [gc_P_s this x1, x2, hy, gc_fo_ext H X (H.2.1 c hn).2.2.1]
theorem gc_P_e2 {so' lf' : Nat → Nat} (H : gc_H e n so lf ri nu st T J) (X : gc_ext n so lf so' lf') {s k z : Nat} (hs : s < 6) (hz : z < n) (h : gc_P so lf s k = some (gc_fo so lf z)) : gc_P so' lf' s k = some (gc_fo so' lf' z) := by
  rw [gc_P_ext H X hs h, gc_fo_ext H X hz]
theorem gc_P_e3 {so' lf' : Nat → Nat} (H : gc_H e n so lf ri nu st T J) (X : gc_ext n so lf so' lf') {s k y : Nat} (hs : s < 6) (hy : so' y ≠ 10) (h : gc_P so lf s k = some y) : gc_P so' lf' s k = some y := by
  rw [gc_P_ext H X hs h, gc_fo_n hy]
/-- a waiting node's pointers are neither read by places nor by links -/
theorem gc_fo_c {x v : Nat} (h : so x ≠ 10) : gc_fo so (gc_up lf x v) = gc_fo so lf := by
  funext y
  by_cases c : so y = 10
  · rw [gc_fo_l c, gc_fo_l c, gc_un (by intro z; rw [z] at c; exact h c)]
  · rw [gc_fo_n c, gc_fo_n c]
theorem gc_P_c {x v : Nat} (h : gc_sus so x) : gc_P so (gc_up lf x v) = gc_P so lf := by
  funext s k
  induction k with
  | zero => rw [gc_P, gc_P, gc_fo_c h.2]
  | succ k ih =>
    rw [gc_P, gc_P, ih, gc_fo_c h.2]
    cases gc_P so lf s k with
    | none => rfl
    | some c =>
      dsimp only
      by_cases z : so c = 9
      · rw [if_pos z, if_pos z, gc_un (by intro w; rw [w] at z; exact h.1 z)]
      · rw [if_neg z, if_neg z]
theorem gc_H_lf (H : gc_H e n so lf ri nu st T J) {x v : Nat} (hx : gc_sus so x) (hv : v < n) (hf : gc_fo so lf v = gc_fo so lf (lf x)) : gc_H e n so (gc_up lf x v) ri nu st T J := by
  obtain ⟨h1, h2, h3, h4, h5, h6, h7, h8⟩ := H
  have hF : ∀ y, gc_fo so lf (gc_up lf x v y) = gc_fo so lf (lf y) := by
    intro y
    by_cases c : y = x
    · rw [c, gc_us]; exact hf
    · rw [gc_un c]
  refine ⟨h1, fun y hy => ?_, h3, h4, h5, fun y hy h9 => ?_, fun y hy h9 => ?_, fun y hy h9 => ?_⟩
  · obtain ⟨t1, t2, t3, t4, t5⟩ := h2 y hy
    refine ⟨t1, t2, ?_, t4, t5⟩
    by_cases c : y = x
    · rw [c, gc_us]; exact hv
    · rw [gc_un c]; exact t3
  · have c : y ≠ x := by intro z; rw [z] at h9; exact hx.1 h9
    have := h6 y hy h9
    unfold gc_ce at this ⊢
    rw [gc_un c]; exact this
  · have c : y ≠ x := by intro z; rw [z] at h9; exact hx.2 h9
    have := h7 y hy h9
    unfold gc_lk at this ⊢
    rw [gc_un c, gc_P_c hx]; exact this
  · have := h8 y hy h9
    unfold gc_w gc_wt at this ⊢
    rw [gc_P_c hx, gc_fo_c hx.2, hF]; exact this
theorem gc_H_ri (H : gc_H e n so lf ri nu st T J) {x v : Nat} (hv : v < n) (hf : gc_fo so lf v = gc_fo so lf (ri x)) : gc_H e n so lf (gc_up ri x v) nu st T J := by
  obtain ⟨h1, h2, h3, h4, h5, h6, h7, h8⟩ := H
  have hF : ∀ y, gc_fo so lf (gc_up ri x v y) = gc_fo so lf (ri y) := by
    intro y
    by_cases c : y = x
    · rw [c, gc_us]; exact hf
    · rw [gc_un c]
  refine ⟨h1, fun y hy => ?_, h3, h4, h5, h6, h7, fun y hy h9 => ?_⟩
  · obtain ⟨t1, t2, t3, t4, t5⟩ := h2 y hy
    refine ⟨t1, t2, t3, ?_, t5⟩
    by_cases c : y = x
    · rw [c, gc_us]; exact hv
    · rw [gc_un c]; exact t4
  · have := h8 y hy h9
    unfold gc_w at this ⊢
    rw [hF]; exact this
/-- the heap is small -/
theorem gc_small (H : gc_H e n so lf ri nu st T J) : n ≤ 138 := by
  obtain ⟨h1, h2, h3, h4, h5, h6, h7, h8⟩ := H
  refine gc_pigeon 138 n (fun x => 6 * J x + T x) (fun x hx => ?_) (fun x y hx hy hxy => ?_)
  · have := h2 x hx
    omega
  · have := (h2 x hx).1
    have := (h2 y hy).1
    exact h4 x y hx hy (by omega) (by omega)
/-- two waiting nodes of one sequence are one -/
theorem gc_sus_u (H : gc_H e n so lf ri nu st T J) {x y : Nat} (hx : x < n) (hy : y < n) (sx : gc_sus so x) (sy : gc_sus so y) (h : T x = T y) : x = y :=
  H.2.2.2.1 x y hx hy h (Nat.le_antisymm (H.2.2.2.2.1 y x hy hx sy h) (H.2.2.2.2.1 x y hx hy sx h.symm))
end
end
section
/-! steps of the picture -/
def gc_need (e : gc_Ev) (t j t' j' : Nat) : Prop := ∀ m, j < (gc_E e (m + 1) t).length → j' < (gc_E e m t').length
def gc_want (e : gc_Ev) (n : Nat) (so lf T J : Nat → Nat) (x w : Nat) : Prop :=
  w < n ∧ gc_sus so w ∧ gc_need e (T x) (J x) (T w) (J w) ∧ ∃ a i, a < 6 ∧ (i ≤ J x ∨ i ≤ 15) ∧ gc_P so lf a i = some w
def gc_lp (so lf ri : Nat → Nat) (nu : Nat → Int32) (x : Nat) : Nat := if so x = 0 then 0 else if so x = 7 then ri x else if so x = 8 ∧ nu (ri x) < nu (lf x) then lf x else lf (lf x)
def gc_rp (so lf ri : Nat → Nat) (nu : Nat → Int32) (x : Nat) : Nat := if so x = 0 ∨ so x = 5 ∨ so x = 6 then 0 else if so x = 7 then lf (lf x) else if so x = 8 ∧ nu (lf x) < nu (ri x) then ri x else lf (ri x)
section
variable {e : gc_Ev} {n : Nat} {so lf ri : Nat → Nat} {nu st : Nat → Int32} {T J : Nat → Nat}
theorem gc_want_l (H : gc_H e n so lf ri nu st T J) {x : Nat} (hx : x < n) (hs : gc_sus so x) (h0 : so x ≠ 0) (h9 : so (gc_fo so lf (lf x)) ≠ 9) : gc_want e n so lf T J x (gc_fo so lf (lf x)) := by
  obtain ⟨w1, w2, w3, w4, w5⟩ := H.2.2.2.2.2.2.2 x hx hs
  by_cases c : so x = 2
  · obtain ⟨j0, a, ha, hE, hP⟩ := w5 c
    obtain ⟨p1, p2, p3, p4⟩ := gc_pos H ha hP
    refine ⟨p1, ⟨h9, p2⟩, fun m hm => ?_, a, 0, ha, Or.inr (by omega), hP⟩
    rw [hE m, List.length_drop] at hm
    exact gc_al_len p3 (by omega)
  · obtain ⟨a, i, b, d, ha, hb, hi, hd, hS, hP, _⟩ := w4 c
    obtain ⟨p1, p2, p3, p4⟩ := gc_pos H ha (hP h0)
    exact ⟨p1, ⟨h9, p2⟩, fun m hm => gc_al_len p3 (gc_S_l hS h0 hm), a, i, ha, Or.inl hi, hP h0⟩
theorem gc_want_t (H : gc_H e n so lf ri nu st T J) {x l : Nat} (hx : x < n) (h2 : so x = 2) (hl : l = gc_fo so lf (lf x)) (l9 : so l = 9) (h9 : so (gc_fo so lf (lf l)) ≠ 9) : gc_want e n so lf T J x (gc_fo so lf (lf l)) := by
  obtain ⟨w1, w2, w3, w4, w5⟩ := H.2.2.2.2.2.2.2 x hx ⟨by omega, by omega⟩
  obtain ⟨j0, a, ha, hE, hP⟩ := w5 h2
  rw [← hl] at hP
  have hP1 := gc_P_s hP l9
  obtain ⟨p1, p2, p3, p4⟩ := gc_pos H ha hP1
  refine ⟨p1, ⟨h9, p2⟩, fun m hm => ?_, a, 1, ha, Or.inr (by omega), hP1⟩
  rw [hE m, List.length_drop] at hm
  exact gc_al_len p3 (by omega)
theorem gc_want_r (H : gc_H e n so lf ri nu st T J) {x : Nat} (hx : x < n) (hs : gc_sus so x) (h0 : ¬ gc_one (so x)) (h2 : so x ≠ 2) (h9 : so (gc_fo so lf (ri x)) ≠ 9) : gc_want e n so lf T J x (gc_fo so lf (ri x)) := by
  obtain ⟨w1, w2, w3, w4, w5⟩ := H.2.2.2.2.2.2.2 x hx hs
  obtain ⟨a, i, b, d, ha, hb, hi, hd, hS, hP, hQ⟩ := w4 h2
  have hQ' : gc_P so lf b d = some (gc_fo so lf (ri x)) := by
    rcases hQ with z | z | z | z
    · exact absurd (Or.inl z) h0
    · exact absurd (Or.inr (Or.inl z)) h0
    · exact absurd (Or.inr (Or.inr (Or.inl z))) h0
    · exact z
  obtain ⟨p1, p2, p3, p4⟩ := gc_pos H hb hQ'
  exact ⟨p1, ⟨h9, p2⟩, fun m hm => gc_al_len p3 (gc_S_r hS h0 hm), b, d, hb, Or.inl hd, hQ'⟩
theorem gc_H_tail (H : gc_H e n so lf ri nu st T J) {x : Nat} (hx : x < n) (h2 : so x = 2) (hl : so (lf x) = 9) {c : Nat} (hcd : c = gc_fo so lf (lf (lf x))) (hc : so c = 9) :
    x < 6 ∧ gc_ext n so lf (gc_up so x 10) (gc_up lf x c) ∧ gc_H e n (gc_up so x 10) (gc_up lf x c) ri nu st T J := by
  have H' := H
  obtain ⟨h1, b2, h3, h4, h5, h6, h7, h8⟩ := H'
  obtain ⟨w1, w2, w3, w4, w5⟩ := h8 x hx ⟨by omega, by omega⟩
  obtain ⟨j0, a, ha, hE, hP⟩ := w5 h2
  have tx := (b2 x hx).1
  have hxt : x = T x := h4 x (T x) hx (by omega) (h3 _ tx).1.symm (by rw [j0, (h3 _ tx).2])
  have x6 : x < 6 := by omega
  rw [gc_fo_n (by omega)] at hP
  have hP1 := gc_P_s hP hl
  rw [← hcd] at hP1
  obtain ⟨p1, p2, p3, p4⟩ := gc_pos H ha hP1
  have X : gc_ext n so lf (gc_up so x 10) (gc_up lf x c) := by
    intro y hy
    refine ⟨fun z => ?_, fun z => ?_⟩
    · have : y ≠ x := by intro w; rw [w] at z; omega
      rw [gc_un this, gc_un this]; exact ⟨z, rfl⟩
    · have : y ≠ x := by intro w; rw [w] at z; omega
      rw [gc_un this, gc_un this]; exact ⟨z, rfl⟩
  have S : ∀ y, gc_sus (gc_up so x 10) y → y ≠ x ∧ gc_sus so y := by
    intro y hy
    have : y ≠ x := by intro w; rw [w] at hy; exact hy.2 gc_us
    unfold gc_sus at hy
    rw [gc_un this] at hy
    exact ⟨this, hy⟩
  have cx : c ≠ x := by intro w; rw [w] at hc; omega
  have hPx : gc_P (gc_up so x 10) (gc_up lf x c) x 0 = some c := by
    rw [gc_P, gc_fo_l gc_us, gc_us]
  refine ⟨x6, X, h1, fun y hy => ?_, h3, h4, fun y z hy hz hs ht => h5 y z hy hz (S y hs).2 ht, fun y hy h9 => ?_, fun y hy h9 => ?_, fun y hy hs => ?_⟩
  · obtain ⟨t1, t2, t3, t4, t5⟩ := b2 y hy
    refine ⟨t1, t2, ?_, t4, t5⟩
    by_cases z : y = x
    · rw [z, gc_us]; exact p1
    · rw [gc_un z]; exact t3
  · have z : y ≠ x := by intro w; rw [w, gc_us] at h9; omega
    rw [gc_un z] at h9
    have := h6 y hy h9
    unfold gc_ce at this ⊢
    rw [gc_un z]; exact this
  · by_cases z : y = x
    · subst z
      unfold gc_lk
      rw [gc_us, gc_un cx]
      refine ⟨by omega, j0, hc, ?_, fun u hu => ?_⟩
      · exact gc_al_t (gc_al_d hE) p3
      · by_cases u0 : u = 0
        · rw [u0]; exact ⟨y, x6, hPx⟩
        · obtain ⟨s, hs, hp⟩ := p4 u (by omega) hu
          exact ⟨s, hs, gc_P_e3 H X hs (by rw [gc_un cx]; omega) hp⟩
    · rw [gc_un z] at h9
      obtain ⟨k1, k2, k3, k4, k5⟩ := h7 y hy h9
      have lx : lf y ≠ x := by intro w; rw [w] at k3; omega
      unfold gc_lk
      rw [gc_un z, gc_un lx]
      refine ⟨k1, k2, k3, k4, fun u hu => ?_⟩
      obtain ⟨s, hs, hp⟩ := k5 u hu
      exact ⟨s, hs, gc_P_e3 H X hs (by rw [gc_un lx]; omega) hp⟩
  · obtain ⟨z, hs'⟩ := S y hs
    obtain ⟨v1, v2, v3, v4, v5⟩ := h8 y hy hs'
    have b := b2 y hy
    rw [gc_un z]
    refine ⟨v1, v2, v3, fun q => ?_, fun q => ?_⟩
    · obtain ⟨a', i', b', c', g1, g2, g3, g4, g5, g6, g7⟩ := v4 q
      unfold gc_w
      rw [gc_un z, gc_un z]
      exact ⟨a', i', b', c', g1, g2, g3, g4, g5, fun q0 => gc_P_e2 H X g1 b.2.2.1 (g6 q0), g7.imp id (fun t => t.imp id (fun t => t.imp id (fun t => gc_P_e2 H X g2 b.2.2.2.1 t)))⟩
    · obtain ⟨g1, a', g2, g3, g4⟩ := v5 q
      unfold gc_wt
      rw [gc_un z]
      exact ⟨g1, a', g2, g3, gc_P_e2 H X g2 b.2.2.1 g4⟩
theorem gc_H_new (H : gc_H e n so lf ri nu st T J) {x : Nat} (hx : x < n) (hs : gc_sus so x) (h2 : so x ≠ 2) (hL : so x ≠ 0 → so (lf x) = 9) (hR : ¬ gc_one (so x) → so (ri x) = 9) (hJ : J x ≤ 21)
    {so' lf' ri' : Nat → Nat} {nu' st' : Nat → Int32} {T' J' : Nat → Nat}
    (s1 : so' n = so x) (s2 : so' x = 9) (s3 : ∀ y, y < n → y ≠ x → so' y = so y)
    (l1 : lf' n = gc_lp so lf ri nu x) (l2 : lf' x = n) (l3 : ∀ y, y < n → y ≠ x → lf' y = lf y)
    (r1 : ri' n = gc_rp so lf ri nu x) (r3 : ∀ y, y < n → ri' y = ri y)
    (u1 : nu' n = gc_np (so x) (nu x) (st x) (nu (lf x))) (u2 : nu' x = gc_hd (so x) (nu x) (nu (lf x)) (nu (ri x))) (u3 : ∀ y, y < n → y ≠ x → nu' y = nu y)
    (t1 : st' n = gc_nq (so x) (st x)) (t3 : ∀ y, y < n → st' y = st y)
    (T1 : T' n = T x) (T3 : ∀ y, y < n → T' y = T y) (J1 : J' n = J x + 1) (J3 : ∀ y, y < n → J' y = J y) :
    gc_ext n so lf so' lf' ∧ gc_H e (n + 1) so' lf' ri' nu' st' T' J' := by
  have H' := H
  obtain ⟨h1, b2, h3, h4, h5, h6, h7, h8⟩ := H'
  obtain ⟨w1, w2, w3, w4, w5⟩ := h8 x hx hs
  obtain ⟨a, i, b, c, ha, hb, hi, hc, hS, hP, hQ⟩ := w4 h2
  have B := b2 x hx
  have X : gc_ext n so lf so' lf' := by
    intro y hy
    refine ⟨fun z => ?_, fun z => ?_⟩
    · have : y ≠ x := by intro w; rw [w] at z; exact hs.1 z
      rw [s3 y hy this, l3 y hy this]; exact ⟨z, rfl⟩
    · have : y ≠ x := by intro w; rw [w] at z; exact hs.2 z
      rw [s3 y hy this, l3 y hy this]; exact ⟨z, rfl⟩
  have S : ∀ y, y < n → gc_sus so' y → y ≠ x ∧ gc_sus so y := by
    intro y hn hy
    have : y ≠ x := by intro w; rw [w] at hy; exact hy.1 s2
    unfold gc_sus at hy
    rw [s3 y hn this] at hy
    exact ⟨this, hy⟩
  have hPl : so x ≠ 0 → gc_P so lf a i = some (lf x) := by
    intro z
    have := hP z
    rw [gc_fo_n (by have := hL z; omega)] at this
    exact this
  have hPr : ¬ gc_one (so x) → gc_P so lf b c = some (ri x) := by
    intro z
    have z9 := hR z
    have : gc_P so lf b c = some (gc_fo so lf (ri x)) := by
      rcases hQ with t | t | t | t
      · exact absurd (Or.inl t) z
      · exact absurd (Or.inr (Or.inl t)) z
      · exact absurd (Or.inr (Or.inr (Or.inl t))) z
      · exact t
    rw [gc_fo_n (by omega)] at this
    exact this
  have hv : so x = 0 ∨ gc_V e a i (nu (lf x)) := by
    by_cases z : so x = 0
    · exact Or.inl z
    · exact Or.inr (gc_at_V H ha (hPl z) (hL z))
  have hw : gc_one (so x) ∨ gc_V e b c (nu (ri x)) := by
    by_cases z : gc_one (so x)
    · exact Or.inl z
    · exact Or.inr (gc_at_V H hb (hPr z) (hR z))
  have hval := gc_S_V hS B.2.2.2.2 hv hw
  have hnext := gc_S_n hS hv hw
  have hPl' : so x ≠ 0 → gc_P so' lf' a i = some (gc_fo so' lf' (lf x)) := fun z => gc_P_e2 H X ha B.2.2.1 (hP z)
  have hPl1 : so x ≠ 0 → gc_P so' lf' a (i + 1) = some (gc_fo so' lf' (lf (lf x))) := fun z => gc_P_e2 H X ha (b2 _ B.2.2.1).2.2.1 (gc_P_s (hPl z) (hL z))
  have hPr' : so x = 0 ∨ so x = 5 ∨ so x = 6 ∨ gc_P so' lf' b c = some (gc_fo so' lf' (ri x)) := hQ.imp id (fun t => t.imp id (fun t => t.imp id (fun t => gc_P_e2 H X hb B.2.2.2.1 t)))
  have hPr1 : ¬ gc_one (so x) → gc_P so' lf' b (c + 1) = some (gc_fo so' lf' (lf (ri x))) := fun z => gc_P_e2 H X hb (b2 _ B.2.2.2.1).2.2.1 (gc_P_s (hPr z) (hR z))
  have nx : n ≠ x := by omega
  have cs : ∀ y, y < n + 1 → y = n ∨ y < n := fun y hy => by omega
  refine ⟨X, by omega, fun y hy => ?_, fun y hy => ?_, fun y z hy hz ht hj => ?_, fun y z hy hz hsy ht => ?_, fun y hy h9 => ?_, fun y hy h9 => ?_, fun y hy hsy => ?_⟩
  · rcases cs y hy with q | q
    · rw [q, T1, J1, l1, r1]
      refine ⟨B.1, by omega, ?_, ?_, gc_V_len hval⟩
      · have q1 := (b2 _ B.2.2.1).2.2.1
        unfold gc_lp
        split
        · omega
        · split
          · have := B.2.2.2.1; omega
          · split
            · have := B.2.2.1; omega
            · omega
      · have q1 := (b2 _ B.2.2.1).2.2.1
        have q2 := (b2 _ B.2.2.2.1).2.2.1
        unfold gc_rp
        split
        · omega
        · split
          · omega
          · split
            · have := B.2.2.2.1; omega
            · omega
    · have b := b2 y q
      rw [T3 y q, J3 y q, r3 y q]
      refine ⟨b.1, b.2.1, ?_, by have := b.2.2.2.1; omega, b.2.2.2.2⟩
      by_cases z : y = x
      · rw [z, l2]; omega
      · rw [l3 y q z]; have := b.2.2.1; omega
  · rw [T3 y (by omega), J3 y (by omega)]; exact h3 y hy
  · rcases cs y hy with q | q <;> rcases cs z hz with q' | q'
    · omega
    · rw [q, T1, T3 z q'] at ht
      rw [q, J1, J3 z q'] at hj
      have := h5 x z hx q' hs ht.symm
      omega
    · rw [q', T1, T3 y q] at ht
      rw [q', J1, J3 y q] at hj
      have := h5 x y hx q hs ht
      omega
    · rw [T3 y q, T3 z q'] at ht
      rw [J3 y q, J3 z q'] at hj
      exact h4 y z q q' ht hj
  · rcases cs y hy with q | q
    · rw [q, T1] at ht
      rw [q, J1]
      rcases cs z hz with q' | q'
      · rw [q', J1]; omega
      · rw [T3 z q'] at ht
        rw [J3 z q']
        have := h5 x z hx q' hs ht
        omega
    · obtain ⟨yx, ys⟩ := S y q hsy
      rw [T3 y q] at ht
      rw [J3 y q]
      rcases cs z hz with q' | q'
      · rw [q', T1] at ht
        exact absurd (gc_sus_u H q hx ys hs ht.symm) yx
      · rw [T3 z q'] at ht
        rw [J3 z q']
        exact h5 y z q q' ys ht
  · rcases cs y hy with q | q
    · rw [q, s1] at h9
      exact absurd h9 hs.1
    · by_cases z : y = x
      · unfold gc_ce
        rw [z, l2, T1, J1, T3 x hx, J3 x hx, u2]
        exact ⟨hval, Or.inr ⟨by omega, by omega, rfl, rfl⟩⟩
      · rw [s3 y q z] at h9
        have := h6 y q h9
        have bl := (b2 y q).2.2.1
        unfold gc_ce at this ⊢
        rw [l3 y q z, T3 y q, J3 y q, u3 y q z, T3 _ bl, J3 _ bl]
        exact this
  · rcases cs y hy with q | q
    · rw [q, s1] at h9
      exact absurd h9 hs.2
    · have z : y ≠ x := by intro w; rw [w, s2] at h9; omega
      rw [s3 y q z] at h9
      obtain ⟨k1, k2, k3, k4, k5⟩ := h7 y q h9
      have bl := (b2 y q).2.2.1
      have lx : lf y ≠ x := by intro w; rw [w] at k3; exact hs.1 k3
      unfold gc_lk
      rw [l3 y q z, T3 y q, J3 y q, T3 _ bl, J3 _ bl, s3 _ bl lx]
      refine ⟨k1, k2, k3, k4, fun u hu => ?_⟩
      obtain ⟨s, hs', hp⟩ := k5 u hu
      exact ⟨s, hs', gc_P_e3 H X hs' (by rw [s3 _ bl lx]; omega) hp⟩
  · rcases cs y hy with q | q
    · subst q
      rw [s1, T1]
      refine ⟨w1, w2, w3, fun _ => ?_, fun q => absurd q h2⟩
      unfold gc_w
      rw [s1, T1, J1, u1, t1]
      refine ⟨_, _, _, _, ?_, ?_, ?_, ?_, hnext, fun q0 => ?_, ?_⟩
      · split
        · exact hb
        · exact ha
      · split
        · exact ha
        · exact hb
      · have := gc_dl_le (so x) (nu (lf x)) (nu (ri x))
        split <;> omega
      · have := gc_dr_le (so x) (nu (lf x)) (nu (ri x))
        split <;> omega
      · rw [l1]
        unfold gc_lp gc_dl
        rw [if_neg q0]
        by_cases h7' : so x = 7
        · rw [if_pos h7', if_pos h7', if_pos h7']
          rcases hPr' with t | t | t | t
          · omega
          · omega
          · omega
          · exact t
        · rw [if_neg h7', if_neg h7', if_neg h7']
          by_cases h8' : so x = 8 ∧ nu (ri x) < nu (lf x)
          · rw [if_pos h8', if_pos h8']; exact hPl' q0
          · rw [if_neg h8', if_neg h8']; exact hPl1 q0
      · by_cases q1 : so x = 0 ∨ so x = 5 ∨ so x = 6
        · rcases q1 with q1 | q1 | q1
          · exact Or.inl q1
          · exact Or.inr (Or.inl q1)
          · exact Or.inr (Or.inr (Or.inl q1))
        · refine Or.inr (Or.inr (Or.inr ?_))
          rw [r1]
          unfold gc_rp gc_dr
          rw [if_neg q1]
          by_cases h7' : so x = 7
          · rw [if_pos h7', if_pos h7', if_pos h7']
            exact hPl1 (by omega)
          · rw [if_neg h7', if_neg h7', if_neg h7']
            have n1 : ¬ gc_one (so x) := by
              intro z
              rcases z with z | z | z | z <;> omega
            by_cases h8' : so x = 8 ∧ nu (lf x) < nu (ri x)
            · rw [if_pos h8', if_pos h8']
              rcases hPr' with t | t | t | t
              · omega
              · omega
              · omega
              · exact t
            · rw [if_neg h8', if_neg h8']; exact hPr1 n1
    · obtain ⟨z, hs'⟩ := S y q hsy
      obtain ⟨v1, v2, v3, v4, v5⟩ := h8 y q hs'
      have b := b2 y q
      rw [s3 y q z, T3 y q]
      refine ⟨v1, v2, v3, fun q1 => ?_, fun q1 => ?_⟩
      · obtain ⟨a', i', b', c', g1, g2, g3, g4, g5, g6, g7⟩ := v4 q1
        unfold gc_w
        rw [s3 y q z, T3 y q, J3 y q, u3 y q z, t3 y q, l3 y q z, r3 y q]
        exact ⟨a', i', b', c', g1, g2, g3, g4, g5, fun q0 => gc_P_e2 H X g1 b.2.2.1 (g6 q0), g7.imp id (fun t => t.imp id (fun t => t.imp id (fun t => gc_P_e2 H X g2 b.2.2.2.1 t)))⟩
      · obtain ⟨g1, a', g2, g3, g4⟩ := v5 q1
        unfold gc_wt
        rw [T3 y q, J3 y q, l3 y q z]
        exact ⟨g1, a', g2, g3, gc_P_e2 H X g2 b.2.2.1 g4⟩
end
end
section
/-! the stack of waiting computations -/
def gc_K (e : gc_Ev) (n : Nat) (so lf T J : Nat → Nat) (bz : Nat → Int32) (m : Nat) (sk : Nat → Nat) : Prop :=
  (∀ i, i < m → sk i < n) ∧
  (∀ i, i + 1 < m → gc_sus so (sk i) ∧ bz (sk i) ≠ 0) ∧
  (∀ i j, i < j → j < m → sk i ≠ sk j) ∧
  (∀ x, x < n → bz x ≠ 0 → gc_sus so x ∧ ∃ i, i < m ∧ sk i = x) ∧
  (∀ i, i + 1 < m → gc_need e (T (sk i)) (J (sk i)) (T (sk (i + 1))) (J (sk (i + 1)))) ∧
  (∀ i, i < m → gc_sus so (sk i) → ∀ u, 15 < u → u ≤ J (sk i) → ∃ s i', s < 6 ∧ i' ≤ i ∧ gc_P so lf s u = some (sk i'))
def gc_ct (so : Nat → Nat) : Nat → Nat
  | 0 => 0
  | k + 1 => gc_ct so k + (if so k = 2 then 1 else 0)
theorem gc_ct_le {so so' : Nat → Nat} : ∀ k, (∀ y, y < k → so' y = 2 → so y = 2) → gc_ct so' k ≤ gc_ct so k := by
  intro k
  induction k with
  | zero => intro _; exact Nat.le_refl _
  | succ k ih =>
    intro h
    have h1 := ih (fun y hy => h y (by omega))
    have h2 := h k (by omega)
    rw [gc_ct, gc_ct]
    by_cases c : so' k = 2
    · rw [if_pos c, if_pos (h2 c)]; omega
    · rw [if_neg c]; omega
theorem gc_ct_lt {so so' : Nat → Nat} {x : Nat} (hx : so x = 2) (hx' : so' x ≠ 2) : ∀ k, x < k → (∀ y, y < k → so' y = 2 → so y = 2) → gc_ct so' k < gc_ct so k := by
  intro k
  induction k with
  | zero => intro h _; omega
  | succ k ih =>
    intro hk h
    rw [gc_ct, gc_ct]
    by_cases c : x = k
    · have h1 := gc_ct_le k (fun y hy => h y (by omega))
      rw [← c, if_pos hx, if_neg hx']
      rw [← c] at h1
      omega
    · have h1 := ih (by omega) (fun y hy => h y (by omega))
      have h2 := h k (by omega)
      by_cases c : so' k = 2
      · rw [if_pos c, if_pos (h2 c)]; omega
      · rw [if_neg c]; omega
section
variable {e : gc_Ev} {n : Nat} {so lf ri : Nat → Nat} {nu st : Nat → Int32} {T J : Nat → Nat} {bz : Nat → Int32} {m : Nat} {sk : Nat → Nat}
theorem gc_K_m (H : gc_H e n so lf ri nu st T J) (K : gc_K e n so lf T J bz m sk) : m ≤ 7 := by
  obtain ⟨k1, k2, k3, k4, k5, k6⟩ := K
  have := gc_pigeon 6 (m - 1) (fun i => T (sk i)) (fun i hi => (H.2.1 _ (k1 i (by omega))).1) (fun i j hi hj h => by
    have q := gc_sus_u H (k1 i (by omega)) (k1 j (by omega)) (k2 i (by omega)).1 (k2 j (by omega)).1 h
    rcases Nat.lt_trichotomy i j with z | z | z
    · exact absurd q (k3 i j z (by omega))
    · exact z
    · exact absurd q.symm (k3 j i z (by omega)))
  omega
theorem gc_K_J (K : gc_K e n so lf T J bz m sk) (hm : 0 < m) (hs : gc_sus so (sk (m - 1))) : J (sk (m - 1)) ≤ 21 := by
  obtain ⟨k1, k2, k3, k4, k5, k6⟩ := K
  refine Classical.byContradiction fun hc => ?_
  have hx : ∀ d, ∃ s, d < 7 → s < 6 ∧ ∃ y, gc_P so lf s (16 + d) = some y ∧ gc_sus so y := by
    intro d
    by_cases hd : d < 7
    · obtain ⟨s, i', h1, h2, h3⟩ := k6 (m - 1) (by omega) hs (16 + d) (by omega) (by omega)
      refine ⟨s, fun _ => ⟨h1, sk i', h3, ?_⟩⟩
      by_cases q : i' = m - 1
      · rw [q]; exact hs
      · exact (k2 i' (by omega)).1
    · exact ⟨0, fun z => absurd z hd⟩
  obtain ⟨f, hf⟩ := Classical.skolem.mp hx
  have := gc_pigeon 6 7 f (fun i hi => (hf i hi).1) (fun i j hi hj h => by
    obtain ⟨_, y, p1, p2⟩ := hf i hi
    obtain ⟨_, y', p1', p2'⟩ := hf j hj
    rw [h] at p1
    have := gc_P_u p1 p1' p2 p2'
    omega)
  omega
theorem gc_K_0 (H : gc_H e n so lf ri nu st T J) (hb : ∀ x, x < n → bz x = 0) {z s k : Nat} (hz : z < n) (hs : s < 6) (hk : k ≤ 15) (hP : gc_P so lf s k = some (gc_fo so lf z)) (h0 : sk 0 = z) : gc_K e n so lf T J bz 1 sk := by
  refine ⟨fun i hi => ?_, fun i hi => absurd hi (by omega), fun i j hi hj => absurd hi (by omega), fun x hx h => absurd (hb x hx) h, fun i hi => absurd hi (by omega), fun i hi hu u u1 u2 => ?_⟩
  · rw [show i = 0 by omega, h0]; exact hz
  · obtain rfl : i = 0 := by omega
    rw [h0] at hu u2
    rw [gc_fo_n hu.2] at hP
    obtain ⟨_, _, _, p4⟩ := gc_pos H hs hP
    obtain ⟨s', hs', hp⟩ := p4 u (by omega) u2
    exact ⟨s', 0, hs', Nat.le_refl 0, by rw [h0]; exact hp⟩
theorem gc_K_pop {sk' : Nat → Nat} (K : gc_K e n so lf T J bz m sk) (hm : 0 < m) (hs : ¬ gc_sus so (sk (m - 1))) (h : ∀ i, i < m - 1 → sk' i = sk i) : gc_K e n so lf T J bz (m - 1) sk' := by
  obtain ⟨k1, k2, k3, k4, k5, k6⟩ := K
  refine ⟨fun i hi => ?_, fun i hi => ?_, fun i j hi hj => ?_, fun x hx hb => ?_, fun i hi => ?_, fun i hi hu u u1 u2 => ?_⟩
  · rw [h i hi]; exact k1 i (by omega)
  · rw [h i (by omega)]; exact k2 i (by omega)
  · rw [h i (by omega), h j hj]; exact k3 i j hi (by omega)
  · obtain ⟨q, i, hi, hx'⟩ := k4 x hx hb
    have : i ≠ m - 1 := by intro z; rw [z] at hx'; rw [hx'] at hs; exact hs q
    exact ⟨q, i, by omega, by rw [h i (by omega)]; exact hx'⟩
  · rw [h i (by omega), h (i + 1) hi]; exact k5 i (by omega)
  · rw [h i hi] at hu u2
    obtain ⟨s, i', a1, a2, a3⟩ := k6 i (by omega) hu u u1 u2
    exact ⟨s, i', a1, a2, by rw [h i' (by omega)]; exact a3⟩
theorem gc_K_bz (K : gc_K e n so lf T J bz m sk) (hm : 0 < m) (hs : gc_sus so (sk (m - 1))) {v : Int32} (hv : v ≠ 0) : gc_K e n so lf T J (upd bz (sk (m - 1)) v) m sk := by
  obtain ⟨k1, k2, k3, k4, k5, k6⟩ := K
  refine ⟨k1, fun i hi => ⟨(k2 i hi).1, ?_⟩, k3, fun x hx hb => ?_, k5, k6⟩
  · rw [pk_un (k3 i (m - 1) (by omega) (by omega))]; exact (k2 i hi).2
  · by_cases c : x = sk (m - 1)
    · rw [c]; exact ⟨hs, m - 1, by omega, rfl⟩
    · rw [pk_un c] at hb; exact k4 x hx hb
theorem gc_K_lf {x v : Nat} (hx : gc_sus so x) (K : gc_K e n so lf T J bz m sk) : gc_K e n so (gc_up lf x v) T J bz m sk := by
  unfold gc_K at K ⊢
  rw [gc_P_c hx]; exact K
theorem gc_K_c {sk' : Nat → Nat} (K : gc_K e n so lf T J bz m sk) (h : ∀ i, i < m → sk' i = sk i) : gc_K e n so lf T J bz m sk' := by
  obtain ⟨k1, k2, k3, k4, k5, k6⟩ := K
  refine ⟨fun i hi => ?_, fun i hi => ?_, fun i j hi hj => ?_, fun x hx hb => ?_, fun i hi => ?_, fun i hi hu u u1 u2 => ?_⟩
  · rw [h i hi]; exact k1 i hi
  · rw [h i (by omega)]; exact k2 i hi
  · rw [h i (by omega), h j hj]; exact k3 i j hi hj
  · obtain ⟨q, i, hi, hx'⟩ := k4 x hx hb
    exact ⟨q, i, hi, by rw [h i hi]; exact hx'⟩
  · rw [h i (by omega), h (i + 1) hi]; exact k5 i hi
  · rw [h i hi] at hu u2
    obtain ⟨s, i', a1, a2, a3⟩ := k6 i hi hu u u1 u2
    exact ⟨s, i', a1, a2, by rw [h i' (by omega)]; exact a3⟩
theorem gc_K_push {sk' : Nat → Nat} {w : Nat} (H : gc_H e n so lf ri nu st T J) (K : gc_K e n so lf T J bz m sk) (hm : 0 < m) (hs : gc_sus so (sk (m - 1))) (hb : bz (sk (m - 1)) ≠ 0) (W : gc_want e n so lf T J (sk (m - 1)) w) (hw : bz w = 0) (h : ∀ i, i < m → sk' i = sk i) (h' : sk' m = w) : gc_K e n so lf T J bz (m + 1) sk' := by
  obtain ⟨k1, k2, k3, k4, k5, k6⟩ := K
  obtain ⟨w1, w2, w3, a, i0, w4, w5, w6⟩ := W
  have cs : ∀ i, i < m + 1 → i = m ∨ i < m := fun i hi => by omega
  have hbz : ∀ i, i < m → gc_sus so (sk i) ∧ bz (sk i) ≠ 0 := by
    intro i hi
    by_cases q : i = m - 1
    · rw [q]; exact ⟨hs, hb⟩
    · exact k2 i (by omega)
  refine ⟨fun i hi => ?_, fun i hi => ?_, fun i j hi hj => ?_, fun x hx hbx => ?_, fun i hi => ?_, fun i hi hu u u1 u2 => ?_⟩
  · rcases cs i hi with q | q
    · rw [q, h']; exact w1
    · rw [h i q]; exact k1 i q
  · rw [h i (by omega)]; exact hbz i (by omega)
  · rw [h i (by omega)]
    rcases cs j hj with q | q
    · rw [q, h']
      intro z
      rw [← z] at hw
      exact (hbz i (by omega)).2 hw
    · rw [h j q]; exact k3 i j hi q
  · obtain ⟨q, i, hi, hx'⟩ := k4 x hx hbx
    exact ⟨q, i, by omega, by rw [h i hi]; exact hx'⟩
  · rw [h i (by omega)]
    rcases cs (i + 1) hi with q | q
    · rw [q, h', show i = m - 1 by omega]; exact w3
    · rw [h (i + 1) q]; exact k5 i q
  · rcases cs i hi with q | q
    · rw [q, h'] at u2
      by_cases z : u ≤ J (sk (m - 1))
      · obtain ⟨s, i', a1, a2, a3⟩ := k6 (m - 1) (by omega) hs u u1 z
        exact ⟨s, i', a1, by omega, by rw [h i' (by omega)]; exact a3⟩
      · obtain ⟨s, a1, a2⟩ := (gc_pos H w4 w6).2.2.2 u (by omega) u2
        exact ⟨s, m, a1, by omega, by rw [h']; exact a2⟩
    · rw [h i q] at hu u2
      obtain ⟨s, i', a1, a2, a3⟩ := k6 i q hu u u1 u2
      exact ⟨s, i', a1, a2, by rw [h i' (by omega)]; exact a3⟩
theorem gc_K_fin {n' : Nat} {so' lf' T' J' : Nat → Nat} {bz' : Nat → Int32} {x : Nat} (H : gc_H e n so lf ri nu st T J) (K : gc_K e n so lf T J bz m sk) (hm : 0 < m) (hx : sk (m - 1) = x) (X : gc_ext n so lf so' lf') (hn : n ≤ n') (hso : ∀ y, y < n → y ≠ x → so' y = so y) (hsx : ¬ gc_sus so' x) (hT : ∀ y, y < n → T' y = T y) (hJ : ∀ y, y < n → J' y = J y) (hb : ∀ y, y < n' → bz' y ≠ 0 → y < n ∧ y ≠ x ∧ bz y ≠ 0) (hb2 : ∀ y, y < n → y ≠ x → bz' y = bz y) : gc_K e n' so' lf' T' J' bz' m sk := by
  obtain ⟨k1, k2, k3, k4, k5, k6⟩ := K
  have hne : ∀ i, i + 1 < m → sk i ≠ x := fun i hi => by rw [← hx]; exact k3 i (m - 1) (by omega) (by omega)
  refine ⟨fun i hi => Nat.lt_of_lt_of_le (k1 i hi) hn, fun i hi => ?_, k3, fun y hy hbx => ?_, fun i hi => ?_, fun i hi hu u u1 u2 => ?_⟩
  · have q := k2 i hi
    have z := k1 i (by omega)
    unfold gc_sus
    rw [hso _ z (hne i hi), hb2 _ z (hne i hi)]; exact q
  · obtain ⟨y1, y2, y3⟩ := hb y hy hbx
    obtain ⟨q, r⟩ := k4 y y1 y3
    unfold gc_sus
    rw [hso y y1 y2]; exact ⟨q, r⟩
  · rw [hT _ (k1 i (by omega)), hJ _ (k1 i (by omega)), hT _ (k1 (i + 1) hi), hJ _ (k1 (i + 1) hi)]; exact k5 i hi
  · have hi1 : i + 1 < m := by
      refine Classical.byContradiction fun z => ?_
      rw [show i = m - 1 by omega, hx] at hu
      exact hsx hu
    have z := k1 i hi
    unfold gc_sus at hu
    rw [hso _ z (hne i hi1)] at hu
    rw [hJ _ z] at u2
    obtain ⟨s, i', a1, a2, a3⟩ := k6 i hi hu u u1 u2
    refine ⟨s, i', a1, a2, gc_P_e3 H X a1 ?_ a3⟩
    rw [hso _ (k1 i' (by omega)) (hne i' (by omega))]
    exact (k2 i' (by omega)).1.2
/-- a circle: nothing on the stack is ever finished -/
theorem gc_hole (K : gc_K e n so lf T J bz m sk) (hm : 0 < m) {w i0 : Nat} (hN : gc_need e (T (sk (m - 1))) (J (sk (m - 1))) (T w) (J w)) (h0 : i0 < m) (hw : sk i0 = w) : ∀ k i, i < m → ¬ J (sk i) < (gc_E e k (T (sk i))).length := by
  obtain ⟨k1, k2, k3, k4, k5, k6⟩ := K
  intro k
  induction k with
  | zero =>
    intro i hi h
    rw [gc_E] at h
    exact absurd h (by rw [List.length_nil]; omega)
  | succ k ih =>
    intro i hi h
    by_cases q : i + 1 < m
    · exact ih (i + 1) q (k5 i q k h)
    · rw [show i = m - 1 by omega] at h
      have := hN k h
      rw [← hw] at this
      exact ih i0 h0 this
end
end
section
/-! the small methods, walked -/
def gc_R (n : Nat) (a : Nat → Int32) (f : Nat → Nat) : Prop := ∀ x, x < n → a x = nI (f x)
theorem gc_b8 : ∀ k, k < 11 → (nI k).toInt8.toInt32 = nI k := by decide +kernel
theorem gc_s16 : ∀ k, k < 512 → (nI k).toInt16.toInt32 = nI k := by decide +kernel
theorem gc_R_u {n k v : Nat} {a : Nat → Int32} {f : Nat → Nat} (h : gc_R n a f) : gc_R n (upd a k (nI v)) (gc_up f k v) := by
  intro x hx
  by_cases c : x = k
  · rw [c, pk_us, gc_us]
  · rw [pk_un c, gc_un c]; exact h x hx
theorem gc_R_s {n k v : Nat} {a : Nat → Int32} {f : Nat → Nat} (h : gc_R n a f) (hk : k = n) : gc_R (n + 1) (upd a k (nI v)) (gc_up f k v) := by
  intro x hx
  by_cases c : x = k
  · rw [c, pk_us, gc_us]
  · rw [pk_un c, gc_un c]; exact h x (by omega)
section
variable {e : gc_Ev} {n : Nat} {so lf ri : Nat → Nat} {T J : Nat → Nat} {fb f1 f2 f3 : Int32} {a1 a2 a3 a4 a5 a6 a7 a8 a9 a10 a11 a12 : Nat → Int32}
theorem gc_so_le {nu st : Nat → Int32} (H : gc_H e n so lf ri nu st T J) {x : Nat} (hx : x < n) : so x ≤ 10 := by
  by_cases c9 : so x = 9
  · omega
  · by_cases c10 : so x = 10
    · omega
    · have := (H.2.2.2.2.2.2.2 x hx ⟨c9, c10⟩).2.1
      omega
theorem gc_follow_n {post : Int32 → Prop} {x : Nat} (hx : x < 512) (h : ¬ a4 x = 10) (hp : post (nI x)) : wpX_follow post (fb, f1, f2, f3, a1, a2, a3, a4, a5, a6, a7, a8, a9, a10, a11, a12) (nI x) :=
  ⟨1, pk_in x 512 hx, br_f (by rw [nI_clamp (by omega)]; exact h) hp⟩
theorem gc_follow_l {post : Int32 → Prop} {x y : Nat} (hx : x < 512) (h : a4 x = 10) (hl : a7 x = nI y) (hy : y < 512) (h' : ¬ a4 y = 10) (hp : post (nI y)) : wpX_follow post (fb, f1, f2, f3, a1, a2, a3, a4, a5, a6, a7, a8, a9, a10, a11, a12) (nI x) :=
  ⟨2, pk_in x 512 hx, br_t (by rw [nI_clamp (by omega)]; exact h) ⟨pk_in x 512 hx, nm_r (e' := nI y) (by rw [nI_clamp (by omega)]; exact hl) ⟨pk_in y 512 hy, br_f (by rw [nI_clamp (by omega)]; exact h') hp⟩⟩⟩
theorem gc_n10 {k : Nat} (h : k ≤ 10) (h' : k ≠ 10) : ¬ nI k = 10 := fun z => h' ((nI_eq (a := k) (b := 10) (by omega) (by omega)).mp z)
theorem gc_follow {post : Int32 → Prop} {nu st : Nat → Int32} (H : gc_H e n so lf ri nu st T J) (hn : n ≤ 512) (Rs : gc_R n a4 so) (Rl : gc_R n a7 lf) {x : Nat} (hx : x < n) (hp : post (nI (gc_fo so lf x))) : wpX_follow post (fb, f1, f2, f3, a1, a2, a3, a4, a5, a6, a7, a8, a9, a10, a11, a12) (nI x) := by
  by_cases c : so x = 10
  · rw [gc_fo_l c] at hp
    have hl := (H.2.1 x hx).2.2.1
    have h9 := (H.2.2.2.2.2.2.1 x hx c).2.2.1
    refine gc_follow_l (by omega) ?_ (Rl x hx) (by omega) ?_ hp
    · rw [Rs x hx, c]; rfl
    · rw [Rs _ hl]; exact gc_n10 (by omega) (by omega)
  · rw [gc_fo_n c] at hp
    refine gc_follow_n (by omega) ?_ hp
    rw [Rs x hx]; exact gc_n10 (gc_so_le H hx) c
theorem gc_alloc {post : Int32 → St1 → Prop} {κ l r : Nat} {p q : Int32} (hn : n < 512) (hk : κ < 11) (hl : l < 512) (hr : r < 512)
    (h : post (nI n) (fb, f1, nI (n + 1), f3, a1, a2, a3, upd a4 n (nI κ), upd a5 n p, upd a6 n q, upd a7 n (nI l), upd a8 n (nI r), upd a9 n 0, a10, a11, a12)) :
    wpX_allocate post (fb, f1, nI n, f3, a1, a2, a3, a4, a5, a6, a7, a8, a9, a10, a11, a12) (nI κ) p q (nI l) (nI r) := by
  have hc : (nI n).toNatClampNeg = n := nI_clamp (by omega)
  have hv : vp_in (nI n) 512 := pk_in n 512 hn
  unfold wpX_allocate
  dsimp only
  rw [hc, gc_b8 κ hk, gc_s16 l hl, gc_s16 r hr]
  exact nm_r (nI_1 n) ⟨hv, nm_e ⟨hv, nm_e ⟨hv, nm_e ⟨hv, nm_e ⟨hv, nm_e ⟨hv, nm_e h⟩⟩⟩⟩⟩⟩
/-- a node whose wants are all met -/
def gc_rdy (so lf ri : Nat → Nat) (x : Nat) : Prop := (so x ≠ 0 → so (lf x) = 9) ∧ (¬ gc_one (so x) → so x ≠ 2 → so (ri x) = 9) ∧ (so x = 2 → so (gc_fo so lf (lf (lf x))) = 9)
theorem gc_wanted {post : Int32 → St1 → Prop} (H : gc_H e n so lf ri a5 a6 T J) (hn : n ≤ 512) (Rs : gc_R n a4 so) (Rl : gc_R n a7 lf) (Rr : gc_R n a8 ri) {x : Nat} (hx : x < n) (hs : gc_sus so x)
    (hp : ∀ (r : Int32) (lf' ri' : Nat → Nat) (a7' a8' : Nat → Int32), gc_R n a7' lf' → gc_R n a8' ri' → gc_H e n so lf' ri' a5 a6 T J → gc_P so lf' = gc_P so lf → gc_fo so lf' = gc_fo so lf → ((r = -1 ∧ gc_rdy so lf' ri' x) ∨ ∃ w, r = nI w ∧ gc_want e n so lf' T J x w) →
      post r (fb, f1, f2, f3, a1, a2, a3, a4, a5, a6, a7', a8', a9, a10, a11, a12)) :
    wpX_wantedBy post (fb, f1, f2, f3, a1, a2, a3, a4, a5, a6, a7, a8, a9, a10, a11, a12) (nI x) := by
  have hc : (nI x).toNatClampNeg = x := nI_clamp (by omega)
  have hv : vp_in (nI x) 512 := pk_in x 512 (by omega)
  obtain ⟨w1, w2, w3, w4, w5⟩ := H.2.2.2.2.2.2.2 x hx hs
  have B := H.2.1 x hx
  obtain ⟨l, hl⟩ : ∃ l, l = gc_fo so lf (lf x) := ⟨_, rfl⟩
  have ln := gc_fo_lt H B.2.2.1
  rw [← hl] at ln
  have hP := gc_P_c (lf := lf) (v := l) hs
  have hF := gc_fo_c (lf := lf) (v := l) hs.2
  have H1 : gc_H e n so (gc_up lf x l) ri a5 a6 T J := gc_H_lf H hs ln.1 (by rw [gc_fo_n ln.2]; exact hl)
  have R1 : gc_R n (upd a7 x (nI l)) (gc_up lf x l) := gc_R_u Rl
  have lx : so l = 9 → l ≠ x := by
    intro z w
    rw [w] at z
    exact hs.1 z
  unfold wpX_wantedBy
  dsimp only
  rw [hc, Rl x hx]
  refine ⟨hv, nm_r (Rs x hx) (pk_eq (so x) 0 (fun z => ?_) (fun z => ⟨hv, gc_follow H hn Rs Rl B.2.2.1 ?_⟩) rfl rfl (by omega) (by omega))⟩
  · refine hp _ lf ri a7 a8 Rl Rr H rfl rfl (Or.inl ⟨rfl, fun q => absurd z q, fun q => absurd (Or.inl z) q, fun q => by omega⟩)
  · rw [← hl]
    refine ⟨hv, nm_r (e' := upd a7 x (nI l)) (by rw [gc_s16 l (by omega)]) ⟨pk_in l 512 (by omega), ?_⟩⟩
    rw [nI_clamp (show l < 2 ^ 31 by omega), Rs l ln.1]
    refine pk_eq (so l) 9 (fun z9 => ?_) (fun z9 => ?_) rfl rfl (by have := gc_so_le H ln.1; omega) (by omega)
    · have lx' := lx z9
      have hlx : gc_up lf x l x = l := gc_us
      have hll : gc_up lf x l l = lf l := gc_un lx'
      have Bl := H.2.1 l ln.1
      refine pk_eq (so x) 2 (fun z2 => ⟨pk_in l 512 (by omega), ?_⟩) (fun z2 => ?_) rfl rfl (by omega) (by omega)
      · rw [pk_un lx', Rl l ln.1]
        refine gc_follow H1 hn Rs R1 Bl.2.2.1 ?_
        rw [hF]
        have cn := gc_fo_lt H Bl.2.2.1
        refine ⟨pk_in (gc_fo so lf (lf l)) 512 (by omega), ?_⟩
        rw [nI_clamp (show gc_fo so lf (lf l) < 2 ^ 31 by omega), Rs _ cn.1]
        refine pk_eq (so (gc_fo so lf (lf l))) 9 (fun y9 => ?_) (fun y9 => ?_) rfl rfl (by have := gc_so_le H cn.1; omega) (by omega)
        · refine hp _ _ ri _ a8 R1 Rr H1 hP hF (Or.inl ⟨rfl, fun _ => ?_, fun _ q => absurd z2 q, fun _ => ?_⟩)
          · rw [hlx]; exact z9
          · rw [hF, hlx, hll]; exact y9
        · refine hp _ _ ri _ a8 R1 Rr H1 hP hF (Or.inr ⟨_, rfl, ?_⟩)
          have := gc_want_t H hx z2 hl z9 y9
          unfold gc_want at this ⊢
          rw [hP]; exact this
      · have two : ¬ gc_one (so x) → wX_wantedBy_99 post (nI x) fb f1 f2 f3 a1 a2 a3 a4 a5 a6 (upd a7 x (nI l)) a8 a9 a10 a11 a12 := by
          intro n1
          unfold wX_wantedBy_99
          rw [hc, Rr x hx]
          obtain ⟨r, hr⟩ : ∃ r, r = gc_fo so lf (ri x) := ⟨_, rfl⟩
          have rn := gc_fo_lt H B.2.2.2.1
          rw [← hr] at rn
          have H2 : gc_H e n so (gc_up lf x l) (gc_up ri x r) a5 a6 T J := gc_H_ri H1 rn.1 (by rw [hF, gc_fo_n rn.2]; exact hr)
          have R2 : gc_R n (upd a8 x (nI r)) (gc_up ri x r) := gc_R_u Rr
          have hrx : gc_up ri x r x = r := gc_us
          refine ⟨hv, gc_follow H1 hn Rs R1 B.2.2.2.1 ?_⟩
          rw [hF, ← hr]
          refine ⟨hv, nm_r (e' := upd a8 x (nI r)) (by rw [gc_s16 r (by omega)]) ⟨pk_in r 512 (by omega), ?_⟩⟩
          rw [nI_clamp (show r < 2 ^ 31 by omega), Rs r rn.1]
          refine pk_eq (so r) 9 (fun y9 => ?_) (fun y9 => ?_) rfl rfl (by have := gc_so_le H rn.1; omega) (by omega)
          · refine hp _ _ _ _ _ R1 R2 H2 hP hF (Or.inl ⟨rfl, fun _ => ?_, fun _ _ => ?_, fun q => absurd q z2⟩)
            · rw [hlx]; exact z9
            · rw [hrx]; exact y9
          · refine hp _ _ _ _ _ R1 R2 H2 hP hF (Or.inr ⟨_, rfl, ?_⟩)
            have := gc_want_r H hx hs n1 z2 (by rw [← hr]; exact y9)
            rw [← hr] at this
            unfold gc_want at this ⊢
            rw [hP]; exact this
        refine pk_eq (so x) 3 (fun q => two (fun o => ?_)) (fun q3 => pk_eq (so x) 4 (fun q => two (fun o => ?_)) (fun q4 => pk_eq (so x) 8 (fun q => two (fun o => ?_)) (fun q8 => ?_) rfl rfl (by omega) (by omega)) rfl rfl (by omega) (by omega)) rfl rfl (by omega) (by omega)
        · rcases o with o | o | o | o <;> omega
        · rcases o with o | o | o | o <;> omega
        · rcases o with o | o | o | o <;> omega
        · refine hp _ _ ri _ a8 R1 Rr H1 hP hF (Or.inl ⟨rfl, fun _ => ?_, fun q _ => ?_, fun q => absurd q z2⟩)
          · rw [hlx]; exact z9
          · exfalso
            unfold gc_one at q
            omega
    · refine hp _ _ ri _ a8 R1 Rr H1 hP hF (Or.inr ⟨_, rfl, ?_⟩)
      have := gc_want_l H hx hs z (by rw [← hl]; exact z9)
      rw [← hl] at this
      unfold gc_want at this ⊢
      rw [hP]; exact this
theorem gc_269 {post : St1 → Prop} {x c : Nat} {h : Int32} (hx : x < 512) (hc : c < 512) (hp : post (fb, f1, f2, f3, a1, a2, a3, upd a4 x 9, upd a5 x h, a6, upd a7 x (nI c), a8, a9, a10, a11, a12)) :
    wX_finish_269 post (nI x) h (nI c) fb f1 f2 f3 a1 a2 a3 a4 a5 a6 a7 a8 a9 a10 a11 a12 := by
  have hv : vp_in (nI x) 512 := pk_in x 512 hx
  unfold wX_finish_269
  rw [nI_clamp (show x < 2 ^ 31 by omega), gc_s16 c hc]
  exact ⟨hv, nm_e ⟨hv, nm_e ⟨hv, nm_e hp⟩⟩⟩
theorem gc_hot {post : Int32 → Prop} {u : St1} {κ : Nat} {p v w : Int32} (hk : κ = 3 ∨ κ = 4 ∨ κ = 8) (hp : post (gc_hd κ p v w)) : wpX_headOfTwo post u (nI κ) v w := by
  obtain ⟨b1, b2, b3, b4, c1, c2, c3, c4, c5, c6, c7, c8, c9, c10, c11, c12⟩ := u
  rcases hk with rfl | rfl | rfl
  · exact br_t rfl hp
  · exact br_f (by decide) (br_t rfl hp)
  · refine br_f (by decide) (br_f (by decide) ⟨fun z => ?_, fun z => ?_⟩)
    · have : gc_hd 8 p v w = w := if_pos z
      rw [this] at hp; exact hp
    · have : gc_hd 8 p v w = v := if_neg z
      rw [this] at hp; exact hp
theorem gc_rot {post : Int32 → St1 → Prop} {κ l r : Nat} (hn : n < 512) (hk : κ = 3 ∨ κ = 4 ∨ κ = 8) (hl : l < 512) (hr : r < 512) (hll : lf l < 512) (hrr : lf r < 512) (Rl : a7 l = nI (lf l)) (Rr : a7 r = nI (lf r))
    (h : post (nI n) (fb, f1, nI (n + 1), f3, a1, a2, a3, upd a4 n (nI κ), upd a5 n 0, upd a6 n 0, upd a7 n (nI (if κ = 8 ∧ a5 r < a5 l then l else lf l)), upd a8 n (nI (if κ = 8 ∧ a5 l < a5 r then r else lf r)), upd a9 n 0, a10, a11, a12)) :
    wpX_restOfTwo post (fb, f1, nI n, f3, a1, a2, a3, a4, a5, a6, a7, a8, a9, a10, a11, a12) (nI κ) (nI l) (nI r) := by
  have cl : (nI l).toNatClampNeg = l := nI_clamp (by omega)
  have cr : (nI r).toNatClampNeg = r := nI_clamp (by omega)
  have vl : vp_in (nI l) 512 := pk_in l 512 hl
  have vr : vp_in (nI r) 512 := pk_in r 512 hr
  have go : ∀ x y : Nat, x < 512 → y < 512 → x = (if κ = 8 ∧ a5 r < a5 l then l else lf l) → y = (if κ = 8 ∧ a5 l < a5 r then r else lf r) → wX_restOfTwo_88 post (nI κ) (nI x) (nI y) fb f1 (nI n) f3 a1 a2 a3 a4 a5 a6 a7 a8 a9 a10 a11 a12 := by
    intro x y hx hy ex ey
    unfold wX_restOfTwo_88
    refine gc_alloc hn (by omega) hx hy ?_
    dsimp only
    rw [ex, ey]; exact h
  have g71 : ∀ (x : Nat) (g : Int32), x < 512 → x = (if κ = 8 ∧ a5 r < a5 l then l else lf l) → (g = 0 ↔ κ = 8 ∧ a5 l < a5 r) → wX_restOfTwo_71 post (nI κ) (nI r) g (nI x) fb f1 (nI n) f3 a1 a2 a3 a4 a5 a6 a7 a8 a9 a10 a11 a12 := by
    intro x g hx ex eg
    unfold wX_restOfTwo_71
    rw [cr, Rr]
    refine ⟨fun z => go x r hx hr ex (if_pos (eg.mp z)).symm, fun z => ⟨vr, go x (lf r) hx hrr ex (if_neg (fun t => z (eg.mpr t))).symm⟩⟩
  have g54 : ∀ (f g : Int32), (f = 0 ↔ κ = 8 ∧ a5 r < a5 l) → (g = 0 ↔ κ = 8 ∧ a5 l < a5 r) → wX_restOfTwo_54 post (nI κ) (nI l) (nI r) f g fb f1 (nI n) f3 a1 a2 a3 a4 a5 a6 a7 a8 a9 a10 a11 a12 := by
    intro f g ef eg
    unfold wX_restOfTwo_54
    rw [cl, Rl]
    refine ⟨fun z => g71 l g hl (if_pos (ef.mp z)).symm eg, fun z => ⟨vl, g71 (lf l) g hll (if_neg (fun t => z (ef.mpr t))).symm eg⟩⟩
  have g26 : ∀ f : Int32, (f = 0 ↔ κ = 8 ∧ a5 r < a5 l) → wX_restOfTwo_26 post (nI κ) (nI l) (nI r) f fb f1 (nI n) f3 a1 a2 a3 a4 a5 a6 a7 a8 a9 a10 a11 a12 := by
    intro f ef
    unfold wX_restOfTwo_26
    rw [cl, cr]
    refine pk_eq κ 8 (fun z => ⟨vr, vl, fun t => g54 f 0 ef ⟨fun _ => ⟨z, t⟩, fun _ => rfl⟩, fun t => ?_⟩) (fun z => ?_) rfl rfl (by omega) (by omega)
    · unfold wX_restOfTwo_49
      exact g54 f 1 ef ⟨fun q => absurd q (by decide), fun q => absurd q.2 t⟩
    · unfold wX_restOfTwo_49
      exact g54 f 1 ef ⟨fun q => absurd q (by decide), fun q => absurd q.1 z⟩
  unfold wpX_restOfTwo
  dsimp only
  rw [cl, cr]
  refine pk_eq κ 8 (fun z => ⟨vl, vr, fun t => g26 0 ⟨fun _ => ⟨z, t⟩, fun _ => rfl⟩, fun t => ?_⟩) (fun z => ?_) rfl rfl (by omega) (by omega)
  · unfold wX_restOfTwo_21
    exact g26 1 ⟨fun q => absurd q (by decide), fun q => absurd q.2 t⟩
  · unfold wX_restOfTwo_21
    exact g26 1 ⟨fun q => absurd q (by decide), fun q => absurd q.1 z⟩
theorem gc_finish {post : St1 → Prop} (H : gc_H e n so lf ri a5 a6 T J) (hn : n < 512) (Rs : gc_R n a4 so) (Rl : gc_R n a7 lf) (Rr : gc_R n a8 ri) {x : Nat} (hx : x < n) (hs : gc_sus so x) (hy : gc_rdy so lf ri x)
    (ht : so x = 2 → post (fb, f1, nI n, f3, a1, a2, a3, upd a4 x 10, a5, a6, upd a7 x (nI (gc_fo so lf (lf (lf x)))), a8, upd a9 x 0, a10, a11, a12))
    (hw : so x ≠ 2 → post (fb, f1, nI (n + 1), f3, a1, a2, a3, upd (upd a4 n (nI (so x))) x 9, upd (upd a5 n (gc_np (so x) (a5 x) (a6 x) (a5 (lf x)))) x (gc_hd (so x) (a5 x) (a5 (lf x)) (a5 (ri x))), upd a6 n (gc_nq (so x) (a6 x)), upd (upd a7 n (nI (gc_lp so lf ri a5 x))) x (nI n), upd a8 n (nI (gc_rp so lf ri a5 x)), upd (upd a9 x 0) n 0, a10, a11, a12)) :
    wpX_finish post (fb, f1, nI n, f3, a1, a2, a3, a4, a5, a6, a7, a8, a9, a10, a11, a12) (nI x) := by
  have hc : (nI x).toNatClampNeg = x := nI_clamp (by omega)
  have hv : vp_in (nI x) 512 := pk_in x 512 (by omega)
  obtain ⟨w1, w2, w3, w4, w5⟩ := H.2.2.2.2.2.2.2 x hx hs
  have B := H.2.1 x hx
  have Bl := H.2.1 _ B.2.2.1
  have Br := H.2.1 _ B.2.2.2.1
  obtain ⟨y1, y2, y3⟩ := hy
  have cl : (nI (lf x)).toNatClampNeg = lf x := nI_clamp (by omega)
  have cr : (nI (ri x)).toNatClampNeg = ri x := nI_clamp (by omega)
  have vl : vp_in (nI (lf x)) 512 := pk_in (lf x) 512 (by omega)
  have vr : vp_in (nI (ri x)) 512 := pk_in (ri x) 512 (by omega)
  unfold wpX_finish
  dsimp only
  rw [hc, Rl x hx, cl, Rl _ B.2.2.1]
  refine ⟨hv, nm_r (Rs x hx) ⟨hv, nm_e (pk_eq (so x) 2 (fun z => ?_) (fun z => ⟨hv, nm_e ⟨hv, nm_e ?_⟩⟩) rfl rfl (by omega) (by omega))⟩⟩
  · have h9 := y3 z
    have hl9 := y1 (by omega)
    have hp' := ht z
    refine ⟨hv, nm_e ⟨hv, vl, ?_⟩⟩
    have q0 := Bl.2.2.1
    have nx : lf (lf x) ≠ x := by
      intro q
      rw [q, gc_fo_n hs.2] at h9
      exact hs.1 h9
    by_cases c : so (lf (lf x)) = 10
    · rw [gc_fo_l c] at h9 hp'
      have q1 := (H.2.1 _ q0).2.2.1
      have nx' : lf (lf (lf x)) ≠ x := by
        intro q
        rw [q] at h9
        exact hs.1 h9
      refine gc_follow_l (y := lf (lf (lf x))) (by omega) ?_ (Rl _ q0) (by omega) ?_ ⟨hv, nm_r (by rw [gc_s16 _ (by omega)]) hp'⟩
      · rw [pk_un nx, Rs _ q0, c]; rfl
      · rw [pk_un nx', Rs _ q1]; exact gc_n10 (by omega) (by omega)
    · rw [gc_fo_n c] at h9 hp'
      refine gc_follow_n (by omega) ?_ ⟨hv, nm_r (by rw [gc_s16 _ (by omega)]) hp'⟩
      rw [pk_un nx, Rs _ q0]; exact gc_n10 (gc_so_le H q0) c
  · have hp' := hw z
    unfold gc_np gc_hd gc_nq gc_lp gc_rp at hp'
    rw [cl, Rl _ B.2.2.1]
    refine pk_eq (so x) 0 (fun z0 => ⟨hv, hv, hv, ?_⟩) (fun z0 => ?_) rfl rfl (by omega) (by omega)
    · refine gc_alloc (κ := 0) (l := 0) (r := 0) hn (by omega) (by omega) (by omega) ?_
      refine gc_269 (by omega) hn ?_
      rw [if_pos z0, if_pos z0, if_pos z0, if_pos z0, if_pos (Or.inl z0), z0] at hp'
      exact hp'
    · have hl9 := y1 z0
      rw [if_neg z0, if_neg z0, if_neg z0, if_neg z0] at hp'
      refine pk_eq (so x) 5 (fun z5 => ⟨hv, vl, nm_e ⟨hv, vl, ?_⟩⟩) (fun z5 => ?_) rfl rfl (by omega) (by omega)
      · refine gc_alloc (κ := 5) (r := 0) hn (by omega) (by omega) (by omega) ?_
        refine gc_269 (by omega) hn ?_
        rw [if_pos z5, if_pos z5, if_neg (by omega), if_neg (by omega), if_pos (Or.inr (Or.inl z5)), z5] at hp'
        exact hp'
      · rw [if_neg z5, if_neg z5] at hp'
        refine pk_eq (so x) 6 (fun z6 => ⟨hv, vl, nm_e ⟨vl, ?_⟩⟩) (fun z6 => ?_) rfl rfl (by omega) (by omega)
        · refine gc_alloc (κ := 6) (r := 0) hn (by omega) (by omega) (by omega) ?_
          refine gc_269 (by omega) hn ?_
          rw [if_pos z6, if_pos z6, if_neg (by omega), if_neg (by omega), if_pos (Or.inr (Or.inr z6)), z6] at hp'
          exact hp'
        · rw [if_neg z6, if_neg z6, if_neg (show ¬ (so x = 0 ∨ so x = 5 ∨ so x = 6) by omega)] at hp'
          refine pk_eq (so x) 7 (fun z7 => ⟨vl, nm_e ⟨hv, vl, ?_⟩⟩) (fun z7 => ⟨hv, nm_r (Rr x hx) ⟨vl, vr, ?_⟩⟩) rfl rfl (by omega) (by omega)
          · rw [Rr x hx]
            refine gc_alloc (κ := 7) hn (by omega) (by omega) (by omega) ?_
            refine gc_269 (by omega) hn ?_
            rw [if_pos z7, if_pos z7, if_pos z7, z7] at hp'
            exact hp'
          · rw [if_neg z7, if_neg z7, if_neg z7] at hp'
            rw [cr]
            have k3 : so x = 3 ∨ so x = 4 ∨ so x = 8 := by omega
            refine gc_hot (p := a5 x) k3 ?_
            refine gc_rot (lf := lf) hn k3 (by omega) (by omega) (by omega) (by omega) (Rl _ B.2.2.1) (Rl _ B.2.2.2.1) ?_
            refine gc_269 (by omega) hn ?_
            unfold gc_hd
            rw [if_neg z0, if_neg z5, if_neg z6, if_neg z7]
            exact hp'
theorem gc_giveUp {post : St1 → Prop} {m : Nat} {sk : Nat → Nat} (hm : m ≤ 16) (Rk : gc_R m a12 sk) (hk : ∀ i, i < m → sk i < 512)
    (hp : ∀ b : Nat → Int32, (∀ x, (∃ i, i < m ∧ sk i = x) → b x = 0) → (∀ x, (∀ i, i < m → sk i ≠ x) → b x = a9 x) → post (fb, f1, f2, 0, a1, a2, a3, a4, a5, a6, a7, a8, b, a10, a11, a12)) :
    wpX_giveUp post (fb, f1, f2, nI m, a1, a2, a3, a4, a5, a6, a7, a8, a9, a10, a11, a12) := by
  refine pk_loop (fun N i s => wX_giveUp_2 post fb f1 f2 (nI m) N (nI i) a1 a2 a3 a4 a5 a6 a7 a8 s a10 a11 a12) (fun i s => (∀ x, (∃ j, j < i ∧ sk j = x) → s x = 0) ∧ (∀ x, (∀ j, j < i → sk j ≠ x) → s x = a9 x)) m 0 a9 (Nat.zero_le m) ⟨fun x h => ?_, fun x _ => rfl⟩ (fun N s h => ?_) (fun N i s hi h hw => ?_)
  · obtain ⟨j, hj, _⟩ := h
    exact absurd hj (by omega)
  · exact pk_le m m (fun _ => hp s h.1 h.2) (fun z => absurd z (by omega))
  · refine pk_le m i (fun z => absurd z (by omega)) (fun _ => ⟨pk_in i 16 (by omega), ?_⟩)
    rw [nI_clamp (show i < 2 ^ 31 by omega), Rk i hi]
    refine ⟨pk_in _ 512 (hk i hi), nm_e (nm_r (nI_1 i) ?_)⟩
    rw [nI_clamp (show sk i < 2 ^ 31 by have := hk i hi; omega)]
    refine hw _ ⟨fun x hx => ?_, fun x hx => ?_⟩
    · by_cases c : x = sk i
      · rw [c, pk_us]
      · rw [pk_un c]
        obtain ⟨j, hj, hjx⟩ := hx
        have : j ≠ i := by intro q; rw [q] at hjx; exact c hjx.symm
        exact h.1 x ⟨j, by omega, hjx⟩
    · have c : x ≠ sk i := fun q => hx i (by omega) q.symm
      rw [pk_un c]
      exact h.2 x (fun j hj => hx j (by omega))
end
end
section
/-! force: the loop over the stack -/
def gc_mu (n : Nat) (so : Nat → Nat) (m top : Nat) : Nat := 20 * ((256 - n) + gc_ct so 6) + (if so top = 9 ∨ so top = 10 then 18 else 16 - m)
/-- an object whose graph stands, all its nodes at rest -/
def gc_I (e : gc_Ev) (n : Nat) (so lf ri T J : Nat → Nat) (u : St1) : Prop := match u with
  | (fb, f1, f2, _, a1, a2, a3, a4, a5, a6, a7, a8, a9, _, a11, _) => e = (a1, a2, a3) ∧ fb = 1 ∧ f1 = 0 ∧ f2 = nI n ∧ (∀ s, s < 6 → a11 s = nI s) ∧ gc_H e n so lf ri a5 a6 T J ∧ gc_R n a4 so ∧ gc_R n a7 lf ∧ gc_R n a8 ri ∧ (∀ x, x < n → a9 x = 0)
/-- what force, or reach, answers for place k of s -/
def gc_A (e : gc_Ev) (s k : Nat) (r : Int32) (u : St1) : Prop :=
  ∃ n so lf ri T J, gc_I e n so lf ri T J u ∧ ((∃ y, r = nI y ∧ so y = 9 ∧ gc_P so lf s k = some y) ∨ (r = -1 ∧ ∀ m, ¬ k < (gc_E e m s).length))
theorem gc_12 {post : Int32 → St1 → Prop} {e : gc_Ev} {s k : Nat} {a1 a2 a3 a10 a11 : Nat → Int32} (hs : s < 6) (he : e = (a1, a2, a3)) (h11 : ∀ s, s < 6 → a11 s = nI s) (hp : ∀ r u, gc_A e s k r u → post r u) :
    ∀ (N n m : Nat) (r : Int32) (so lf ri T J sk : Nat → Nat) (a4 a5 a6 a7 a8 a9 a12 : Nat → Int32), gc_H e n so lf ri a5 a6 T J → gc_R n a4 so → gc_R n a7 lf → gc_R n a8 ri → gc_R m a12 sk → gc_K e n so lf T J a9 m sk →
      (m ≠ 0 → gc_P so lf s k = some (gc_fo so lf (sk 0))) → (m = 0 → ∃ y, r = nI y ∧ so y = 9 ∧ gc_P so lf s k = some y) → 0 < N → (m ≠ 0 → gc_mu n so m (sk (m - 1)) < N) →
      wX_force_12 post N r 1 0 (nI n) (nI m) a1 a2 a3 a4 a5 a6 a7 a8 a9 a10 a11 a12 := by
  intro N
  induction N with
  | zero => intro n m r so lf ri T J sk a4 a5 a6 a7 a8 a9 a12 _ _ _ _ _ _ _ _ h0; omega
  | succ N ih =>
    intro n m r so lf ri T J sk a4 a5 a6 a7 a8 a9 a12 H Rs Rl Rr Rk K hQ h0 _ hmu
    have hn := gc_small H
    have hm7 := gc_K_m H K
    refine pk_le m 0 (fun z => ?_) (fun z => br_f ?_ ?_) rfl rfl (by omega) (by omega)
    · obtain ⟨y, h1, h2, h3⟩ := h0 (by omega)
      refine hp _ _ ⟨n, so, lf, ri, T, J, ⟨he, rfl, rfl, rfl, h11, H, Rs, Rl, Rr, fun x hx => ?_⟩, Or.inl ⟨y, h1, h2, h3⟩⟩
      refine Classical.byContradiction fun q => ?_
      obtain ⟨_, i, hi, _⟩ := K.2.2.2.1 x hx q
      omega
    · intro q
      have : nI n = nI 256 := q
      have := (nI_eq (by omega) (by omega)).mp this
      omega
    · obtain ⟨m', rfl⟩ : ∃ m', m = m' + 1 := ⟨m - 1, by omega⟩
      have hmu := hmu (by omega)
      have hQ := hQ (by omega)
      rw [Nat.add_sub_cancel] at hmu
      have Km := K.1 m' (by omega)
      have cm : (nI m').toNatClampNeg = m' := nI_clamp (by omega)
      have vm : vp_in (nI m') 16 := pk_in m' 16 (by omega)
      unfold wX_force_38
      rw [nI_pred, cm, Rk m' (by omega)]
      refine ⟨vm, gc_follow H (by omega) Rs Rl Km ?_⟩
      obtain ⟨y, hy⟩ : ∃ y, y = gc_fo so lf (sk m') := ⟨_, rfl⟩
      have yn := gc_fo_lt H Km
      rw [← hy] at yn ⊢
      have cy : (nI y).toNatClampNeg = y := nI_clamp (by omega)
      have vy : vp_in (nI y) 512 := pk_in y 512 (by omega)
      rw [cy, gc_s16 y (by omega), Rs y yn.1]
      refine ⟨vm, nm_e ⟨vy, pk_eq (so y) 9 (fun z9 => nm_e ?_) (fun z9 => ⟨vy, nm_e ?_⟩) rfl rfl (by have := gc_so_le H yn.1; omega) (by omega)⟩⟩
      · -- a finished cell: it goes
        have ns : ¬ gc_sus so (sk m') := by
          intro q
          rw [gc_fo_n q.2] at hy
          rw [hy] at z9
          exact q.1 z9
        have ns' : so (sk m') = 9 ∨ so (sk m') = 10 := by
          unfold gc_sus at ns
          omega
        have K' : gc_K e n so lf T J a9 m' sk := gc_K_pop (m := m' + 1) K (by omega) ns (fun i _ => rfl)
        unfold gc_mu at hmu
        rw [if_pos ns'] at hmu
        refine ih n m' (nI y) so lf ri T J sk a4 a5 a6 a7 a8 a9 _ H Rs Rl Rr ?_ K' (fun _ => hQ) (fun q => ⟨y, rfl, z9, ?_⟩) (by omega) (fun q => ?_)
        · intro i hi
          rw [pk_un (by omega)]; exact Rk i (by omega)
        · rw [q] at hy
          rw [hQ, hy]
        · unfold gc_mu
          have q1 := (K.2.1 (m' - 1) (by omega)).1
          rw [if_neg (by intro t; rcases t with t | t; exact q1.1 t; exact q1.2 t)]
          omega
      · -- a waiting computation
        have sx : gc_sus so (sk m') := by
          refine ⟨fun q => ?_, fun q => ?_⟩
          · rw [gc_fo_n (by omega)] at hy
            rw [hy] at z9
            exact z9 q
          · have := (H.2.2.2.2.2.2.1 _ Km q).2.2.1
            rw [gc_fo_l q] at hy
            rw [hy] at z9
            exact z9 this
        rw [gc_fo_n sx.2] at hy
        have hyx : sk m' = y := hy.symm
        rw [hyx] at sx hmu
        have K1 : gc_K e n so lf T J (upd a9 y 1) (m' + 1) sk := by
          have := gc_K_bz K (by omega) (by rw [Nat.add_sub_cancel, hyx]; exact sx) (v := 1) (by decide)
          rw [Nat.add_sub_cancel, hyx] at this
          exact this
        have Rk1 : gc_R (m' + 1) (upd a12 m' (nI y)) sk := by
          intro i hi
          by_cases c : i = m'
          · rw [c, pk_us, hyx]
          · rw [pk_un c]; exact Rk i hi
        have hJ : J y ≤ 21 := by
          have := gc_K_J K (by omega) (by rw [Nat.add_sub_cancel, hyx]; exact sx)
          rw [Nat.add_sub_cancel, hyx] at this
          exact this
        have by1 : upd a9 y 1 y ≠ 0 := by rw [pk_us]; decide
        unfold gc_mu at hmu
        rw [if_neg (by intro t; rcases t with t | t; exact sx.1 t; exact sx.2 t)] at hmu
        refine gc_wanted H (by omega) Rs Rl Rr yn.1 sx (fun r' lf' ri' a7' a8' Rl' Rr' H' hP hF hr => ?_)
        have K2 : gc_K e n so lf' T J (upd a9 y 1) (m' + 1) sk := by
          unfold gc_K at K1 ⊢
          rw [hP]; exact K1
        have hQ' : gc_P so lf' s k = some (gc_fo so lf' (sk 0)) := by rw [hP, hF]; exact hQ
        dsimp only
        rcases hr with ⟨rfl, rdy⟩ | ⟨w, rfl, W⟩
        · -- all wants are met
          refine br_f (by decide) (gc_finish H' (by omega) Rs Rl' Rr' yn.1 sx rdy (fun z2 => ?_) (fun z2 => ?_))
          · dsimp only
            obtain ⟨x6, X, H2⟩ := gc_H_tail H' yn.1 z2 (rdy.1 (by omega)) rfl (rdy.2.2 z2)
            have K3 := gc_K_fin (x := y) (n' := n) (T' := T) (J' := J) (bz' := upd (upd a9 y 1) y 0) H' K2 (by omega) (by rw [Nat.add_sub_cancel]; exact hyx) X (Nat.le_refl n) (fun q _ qx => gc_un qx) (fun q => q.2 gc_us) (fun _ _ => rfl) (fun _ _ => rfl) (fun q qn qb => ?_) (fun q _ qx => pk_un qx)
            · have c6 := gc_ct_lt (so := so) (so' := gc_up so y 10) z2 (by rw [gc_us]; omega) 6 x6 (fun q _ hq => by
                by_cases c : q = y
                · rw [c]; exact z2
                · rw [gc_un c] at hq; exact hq)
              refine ih n (m' + 1) r _ _ ri' T J sk _ a5 a6 _ a8' _ _ H2 (gc_R_u Rs) (gc_R_u Rl') Rr' Rk1 K3 (fun _ => gc_P_e2 H' X hs (K.1 0 (by omega)) hQ') (fun q => by omega) (by omega) (fun _ => ?_)
              unfold gc_mu
              rw [Nat.add_sub_cancel, hyx, if_pos (Or.inr gc_us)]
              omega
            · by_cases c : q = y
              · rw [c, pk_us] at qb
                exact absurd rfl qb
              · rw [pk_un c] at qb
                exact ⟨qn, c, qb⟩
          · dsimp only
            have ny : n ≠ y := by omega
            obtain ⟨X, H2⟩ := gc_H_new H' yn.1 sx z2 rdy.1 (fun q => rdy.2.1 q z2) hJ
              (so' := gc_up (gc_up so n (so y)) y 9) (lf' := gc_up (gc_up lf' n (gc_lp so lf' ri' a5 y)) y n) (ri' := gc_up ri' n (gc_rp so lf' ri' a5 y))
              (nu' := upd (upd a5 n (gc_np (so y) (a5 y) (a6 y) (a5 (lf' y)))) y (gc_hd (so y) (a5 y) (a5 (lf' y)) (a5 (ri' y)))) (st' := upd a6 n (gc_nq (so y) (a6 y))) (T' := gc_up T n (T y)) (J' := gc_up J n (J y + 1))
              (by rw [gc_un ny, gc_us]) gc_us (fun q qn qx => by rw [gc_un qx, gc_un (by omega)])
              (by rw [gc_un ny, gc_us]) gc_us (fun q qn qx => by rw [gc_un qx, gc_un (by omega)])
              gc_us (fun q qn => gc_un (by omega))
              (by rw [pk_un ny, pk_us]) pk_us (fun q qn qx => by rw [pk_un qx, pk_un (by omega)])
              pk_us (fun q qn => pk_un (by omega))
              gc_us (fun q qn => gc_un (by omega)) gc_us (fun q qn => gc_un (by omega))
            have K3 := gc_K_fin (x := y) (n' := n + 1) (T' := gc_up T n (T y)) (J' := gc_up J n (J y + 1)) (bz' := upd (upd (upd a9 y 1) y 0) n 0) H' K2 (by omega) (by rw [Nat.add_sub_cancel]; exact hyx) X (Nat.le_succ n) (fun q qn qx => by rw [gc_un qx, gc_un (by omega)]) (fun q => q.1 gc_us) (fun q qn => gc_un (by omega)) (fun q qn => gc_un (by omega)) (fun q qn qb => ?_) (fun q qn qx => by rw [pk_un (by omega), pk_un qx])
            · have c6 := gc_ct_le (so := so) (so' := gc_up (gc_up so n (so y)) y 9) 6 (fun q q6 hq => by
                by_cases c : q = y
                · rw [c, gc_us] at hq; omega
                · rw [gc_un c, gc_un (by have := H.1; omega)] at hq; exact hq)
              have Rs2 : gc_R (n + 1) (upd (upd a4 n (nI (so y))) y 9) (gc_up (gc_up so n (so y)) y 9) := gc_R_u (v := 9) (gc_R_s Rs rfl)
              refine ih (n + 1) (m' + 1) r _ _ _ _ _ sk _ _ _ _ _ _ _ H2 Rs2 (gc_R_u (gc_R_s Rl' rfl)) (gc_R_s Rr' rfl) Rk1 K3 (fun _ => gc_P_e2 H' X hs (K.1 0 (by omega)) hQ') (fun q => by omega) (by omega) (fun _ => ?_)
              unfold gc_mu
              rw [Nat.add_sub_cancel, hyx, if_pos (Or.inl gc_us)]
              omega
            · by_cases c : q = n
              · rw [c, pk_us] at qb
                exact absurd rfl qb
              · rw [pk_un c] at qb
                by_cases c' : q = y
                · rw [c', pk_us] at qb
                  exact absurd rfl qb
                · rw [pk_un c'] at qb
                  exact ⟨by omega, c', qb⟩
        · -- it wants w
          have W1 := W.1
          refine br_t (nI_pos' (by omega)) ⟨pk_in w 512 (by omega), ?_⟩
          rw [nI_clamp (show w < 2 ^ 31 by omega)]
          refine ⟨fun zb => ?_, fun zb => ?_⟩
          · have vm1 : vp_in (nI (m' + 1)) 16 := pk_in (m' + 1) 16 (by omega)
            unfold wpX_push
            dsimp only
            rw [nI_clamp (show m' + 1 < 2 ^ 31 by omega), gc_s16 w (by omega)]
            refine ⟨vm1, nm_e (nm_r (nI_1 (m' + 1)) ?_)⟩
            have K3 : gc_K e n so lf' T J (upd a9 y 1) (m' + 1 + 1) (gc_up sk (m' + 1) w) :=
              gc_K_push H' K2 (by omega) (by rw [Nat.add_sub_cancel, hyx]; exact sx) (by rw [Nat.add_sub_cancel, hyx]; exact by1) (by rw [Nat.add_sub_cancel, hyx]; exact W) zb (fun i hi => gc_un (by omega)) gc_us
            refine ih n (m' + 1 + 1) r so lf' ri' T J (gc_up sk (m' + 1) w) a4 a5 a6 a7' a8' _ _ H' Rs Rl' Rr' (gc_R_s Rk1 rfl) K3 (fun _ => by rw [gc_un (by omega)]; exact hQ') (fun q => by omega) (by omega) (fun _ => ?_)
            unfold gc_mu
            have w2 := W.2.1
            rw [Nat.add_sub_cancel, gc_us, if_neg (by intro t; rcases t with t | t; exact w2.1 t; exact w2.2 t)]
            omega
          · obtain ⟨_, i0, hi0, hw0⟩ := K2.2.2.2.1 w W1 zb
            have hole := gc_hole K2 (by omega) (by rw [Nat.add_sub_cancel, hyx]; exact W.2.2.1) hi0 hw0
            refine gc_giveUp (by omega) Rk1 (fun i hi => by have := K.1 i hi; omega) (fun b b1 b2 => ?_)
            dsimp only
            refine hp _ _ ⟨n, so, lf', ri', T, J, ⟨he, rfl, rfl, rfl, h11, H', Rs, Rl', Rr', fun x hx => ?_⟩, Or.inr ⟨rfl, fun mm hmm => ?_⟩⟩
            · by_cases c : ∃ i, i < m' + 1 ∧ sk i = x
              · exact b1 x c
              · rw [b2 x (fun i hi hix => c ⟨i, hi, hix⟩)]
                refine Classical.byContradiction fun q => ?_
                exact c (K2.2.2.2.1 x hx q).2
            · have s0 : gc_sus so (sk 0) := by
                by_cases c : m' = 0
                · rw [c] at hyx
                  rw [hyx]; exact sx
                · exact (K2.2.1 0 (by omega)).1
              rw [gc_fo_n s0.2] at hQ'
              have al := (gc_pos H' hs hQ').2.2.1
              exact hole mm 0 (by omega) (gc_al_len al hmm)
theorem gc_force {post : Int32 → St1 → Prop} {e : gc_Ev} {s k n z : Nat} {so lf ri T J : Nat → Nat} {fb f1 f2 f3 : Int32} {a1 a2 a3 a4 a5 a6 a7 a8 a9 a10 a11 a12 : Nat → Int32} (hs : s < 6) (hk : k ≤ 15)
    (I : gc_I e n so lf ri T J (fb, f1, f2, f3, a1, a2, a3, a4, a5, a6, a7, a8, a9, a10, a11, a12)) (hz : z < n) (hQ : gc_P so lf s k = some (gc_fo so lf z)) (hp : ∀ r u, gc_A e s k r u → post r u) :
    wpX_force post (fb, f1, f2, f3, a1, a2, a3, a4, a5, a6, a7, a8, a9, a10, a11, a12) (nI z) := by
  obtain ⟨he, rfl, rfl, rfl, h11, H, Rs, Rl, Rr, hb⟩ := I
  have hn := gc_small H
  unfold wpX_force wpX_push
  dsimp only
  rw [gc_s16 z (by omega)]
  refine ⟨pk_in 0 16 (by omega), nm_e (nm_e ⟨gc_mu n so 1 z + 1, ?_⟩)⟩
  exact gc_12 hs he h11 hp _ n 1 (-1) so lf ri T J (fun _ => z) a4 a5 a6 a7 a8 a9 _ H Rs Rl Rr (fun i hi => by rw [show i = 0 by omega]; exact pk_us) (gc_K_0 H hb hz hs hk hQ rfl) (fun _ => hQ) (fun q => by omega) (by omega) (fun _ => Nat.lt_succ_self _)
end
section
/-! the object: build, reach, ready, element, define -/
def gc_wf (e : gc_Ev) : Prop := ∀ s, s < 6 → e.1 s = nI (gc_k e s) ∧ gc_k e s ≤ 8 ∧ (gc_k e s ≠ 0 → gc_b e s < 6 ∧ e.2.2 s = nI (gc_b e s)) ∧ (gc_k e s ≠ 0 → gc_k e s ≠ 1 → gc_k e s ≠ 5 → gc_a e s < 6 ∧ e.2.1 s = nI (gc_a e s))
def gc_so0 (e : gc_Ev) (s : Nat) : Nat := if gc_k e s = 1 then 9 else gc_k e s
def gc_nu0 (e : gc_Ev) (s : Nat) : Int32 := if gc_k e s = 1 then e.2.1 s else gc_p0 e s
def gc_lf0 (e : gc_Ev) (s : Nat) : Nat := if gc_k e s = 0 then 0 else if gc_k e s = 1 ∨ gc_k e s = 5 then gc_b e s else gc_a e s
def gc_two (κ : Nat) : Prop := κ = 3 ∨ κ = 4 ∨ κ = 7 ∨ κ = 8
noncomputable def gc_ri0 (e : gc_Ev) (s : Nat) : Nat := @ite _ (gc_two (gc_k e s)) (Classical.propDecidable _) (gc_b e s) 0
theorem gc_ri0_t {e : gc_Ev} {s : Nat} (h : gc_two (gc_k e s)) : gc_ri0 e s = gc_b e s := if_pos h
theorem gc_ri0_f {e : gc_Ev} {s : Nat} (h : ¬ gc_two (gc_k e s)) : gc_ri0 e s = 0 := if_neg h
theorem gc_lf0_lt {e : gc_Ev} (wf : gc_wf e) {s : Nat} (hs : s < 6) : gc_lf0 e s < 6 := by
  obtain ⟨w1, w2, w3, w4⟩ := wf s hs
  unfold gc_lf0
  split
  · omega
  · rename_i h0
    split
    · exact (w3 h0).1
    · rename_i h1
      exact (w4 h0 (by omega) (by omega)).1
theorem gc_ri0_lt {e : gc_Ev} (wf : gc_wf e) {s : Nat} (hs : s < 6) : gc_ri0 e s < 6 := by
  obtain ⟨w1, w2, w3, w4⟩ := wf s hs
  by_cases h : gc_two (gc_k e s)
  · rw [gc_ri0_t h]
    exact (w3 (by unfold gc_two at h; omega)).1
  · rw [gc_ri0_f h]; omega
theorem gc_gen_0 : ∀ (m : Nat) (p q : Int32) (l r l' r' : List Int32), gc_gen 0 m p q l r = gc_gen 0 m p q l' r' := by
  intro m
  induction m with
  | zero => intro p q l r l' r'; rfl
  | succ m ih =>
    intro p q l r l' r'
    rw [gc_gen_t ⟨Or.inl rfl, Or.inl (Or.inl rfl)⟩, gc_gen_t ⟨Or.inl rfl, Or.inl (Or.inl rfl)⟩]
    exact congrArg (List.cons p) (ih _ _ _ _ _ _)
theorem gc_H_build {e : gc_Ev} (wf : gc_wf e) {so lf ri : Nat → Nat} {nu st : Nat → Int32} (hso : ∀ s, s < 6 → so s = gc_so0 e s) (hlf : ∀ s, s < 6 → lf s = gc_lf0 e s) (hri : ∀ s, s < 6 → ri s = gc_ri0 e s) (hnu : ∀ s, s < 6 → nu s = gc_nu0 e s) (hst : ∀ s, s < 6 → st s = gc_q0 e s) :
    gc_H e 6 so lf ri nu st (fun x => x) (fun _ => 0) := by
  have hk : ∀ s, s < 6 → gc_k e s ≠ 1 → so s = gc_k e s := fun s hs h => by rw [hso s hs]; exact if_neg h
  have hk1 : ∀ s, s < 6 → gc_k e s = 1 → so s = 9 := fun s hs h => by rw [hso s hs]; exact if_pos h
  refine ⟨Nat.le_refl 6, fun x hx => ⟨hx, Nat.zero_le 22, ?_, ?_, 0, Nat.zero_le _⟩, fun x _ => ⟨rfl, rfl⟩, fun x y _ _ h _ => h, fun x y _ _ _ _ => Nat.le_refl 0, fun x hx h9 => ?_, fun x hx h10 => ?_, fun x hx hs => ?_⟩
  · rw [hlf x hx]; exact gc_lf0_lt wf hx
  · rw [hri x hx]; exact gc_ri0_lt wf hx
  · obtain ⟨w1, w2, w3, w4⟩ := wf x hx
    have k1 : gc_k e x = 1 := Classical.byContradiction fun q => by rw [hk x hx q] at h9; omega
    have hl : lf x = gc_b e x := by
      rw [hlf x hx]
      unfold gc_lf0
      rw [if_neg (by omega), if_pos (Or.inl k1)]
    refine ⟨⟨1, gc_E e 0 (gc_b e x), ?_⟩, Or.inl ⟨k1, rfl, hl, ?_⟩⟩
    · rw [gc_E1 0 k1, hnu x hx]
      unfold gc_nu0
      rw [if_pos k1]; rfl
    · rw [hl]; exact (w3 (by omega)).1
  · obtain ⟨w1, w2, w3, w4⟩ := wf x hx
    by_cases k1 : gc_k e x = 1
    · rw [hk1 x hx k1] at h10; omega
    · rw [hk x hx k1] at h10; omega
  · obtain ⟨w1, w2, w3, w4⟩ := wf x hx
    have k1 : gc_k e x ≠ 1 := fun q => hs.1 (hk1 x hx q)
    have sx := hk x hx k1
    have hn : nu x = gc_p0 e x := by
      rw [hnu x hx]; exact if_neg k1
    dsimp only
    rw [sx]
    refine ⟨rfl, w2, k1, fun q2 => ?_, fun q2 => ?_⟩
    · unfold gc_w
      dsimp only
      rw [sx, hn, hst x hx]
      by_cases k0 : gc_k e x = 0
      · refine ⟨0, 0, 0, 0, by omega, by omega, Nat.le_refl 0, Nat.le_refl 0, ?_, fun q => absurd k0 q, Or.inl k0⟩
        intro m hm
        rw [gc_S_0 k1 q2 m hm, k0]
        exact gc_gen_0 _ _ _ _ _ _ _
      · have hl : lf x = gc_l e x := by
          rw [hlf x hx]
          unfold gc_lf0 gc_l
          rw [if_neg k0]
          by_cases k5 : gc_k e x = 5
          · rw [if_pos (Or.inr k5), if_pos k5]
          · rw [if_neg (by omega), if_neg k5]
        refine ⟨gc_l e x, 0, gc_b e x, 0, ?_, (w3 k0).1, Nat.le_refl 0, Nat.le_refl 0, gc_S_0 k1 q2, fun q => ?_, ?_⟩
        · rw [← hl, hlf x hx]; exact gc_lf0_lt wf hx
        · rw [hl]; rfl
        · by_cases k5 : gc_k e x = 5
          · exact Or.inr (Or.inl k5)
          · by_cases k6 : gc_k e x = 6
            · exact Or.inr (Or.inr (Or.inl k6))
            · refine Or.inr (Or.inr (Or.inr ?_))
              rw [hri x hx, gc_ri0_t (by unfold gc_two; omega)]; rfl
    · refine ⟨rfl, gc_a e x, (w4 (by omega) k1 (by omega)).1, fun m => gc_E2 m q2, ?_⟩
      rw [hlf x hx]
      unfold gc_lf0
      rw [if_neg (by omega), if_neg (by omega)]; rfl
/-- what the first i nodes hold while they are made -/
def gc_Z (e : gc_Ev) (i : Nat) (a4 a5 a6 a7 a8 a9 a11 : Nat → Int32) : Prop := ∀ s, s < i → a4 s = nI (gc_so0 e s) ∧ a5 s = gc_nu0 e s ∧ a6 s = gc_q0 e s ∧ a7 s = nI (gc_lf0 e s) ∧ a8 s = nI (gc_ri0 e s) ∧ a9 s = 0 ∧ a11 s = nI s
theorem gc_Z_s {e : gc_Ev} {i : Nat} {a4 a5 a6 a7 a8 a9 a11 : Nat → Int32} (h : gc_Z e i a4 a5 a6 a7 a8 a9 a11) :
    gc_Z e (i + 1) (upd a4 i (nI (gc_so0 e i))) (upd a5 i (gc_nu0 e i)) (upd a6 i (gc_q0 e i)) (upd a7 i (nI (gc_lf0 e i))) (upd a8 i (nI (gc_ri0 e i))) (upd a9 i 0) (upd a11 i (nI i)) := by
  intro s hs
  by_cases c : s = i
  · rw [c, pk_us, pk_us, pk_us, pk_us, pk_us, pk_us, pk_us]
    exact ⟨rfl, rfl, rfl, rfl, rfl, rfl, rfl⟩
  · rw [pk_un c, pk_un c, pk_un c, pk_un c, pk_un c, pk_un c, pk_un c]
    exact h s (by omega)
theorem gc_won {post : Int32 → Prop} {u : St1} {κ : Nat} (hk : κ ≤ 8) (h1 : κ = 1 ∨ κ = 5 ∨ gc_two κ → post 1) (h0 : ¬ (κ = 1 ∨ κ = 5 ∨ gc_two κ) → post 0) : wpX_worksOnB post u (nI κ) := by
  obtain ⟨b1, b2, b3, b4, c1, c2, c3, c4, c5, c6, c7, c8, c9, c10, c11, c12⟩ := u
  unfold gc_two at h1 h0
  exact pk_eq κ 1 (fun z => h1 (by omega)) (fun z1 => pk_eq κ 3 (fun z => h1 (by omega)) (fun z3 => pk_eq κ 4 (fun z => h1 (by omega)) (fun z4 => pk_eq κ 5 (fun z => h1 (by omega)) (fun z5 => pk_eq κ 7 (fun z => h1 (by omega)) (fun z7 => pk_eq κ 8 (fun z => h1 (by omega)) (fun z8 => h0 (by omega)) rfl rfl (by omega) (by omega)) rfl rfl (by omega) (by omega)) rfl rfl (by omega) (by omega)) rfl rfl (by omega) (by omega)) rfl rfl (by omega) (by omega)) rfl rfl (by omega) (by omega)
section
variable {e : gc_Ev} {fb f1 f2 f3 : Int32} {a1 a2 a3 a4 a5 a6 a7 a8 a9 a10 a11 a12 : Nat → Int32}
theorem gc_b67 {post : St1 → Prop} {J25 : Int32 → Int32 → Int32 → Int32 → Int32 → (Nat → Int32) → (Nat → Int32) → (Nat → Int32) → (Nat → Int32) → (Nat → Int32) → (Nat → Int32) → (Nat → Int32) → (Nat → Int32) → (Nat → Int32) → (Nat → Int32) → (Nat → Int32) → (Nat → Int32) → Prop} {i : Nat} {z0 : Int32} (wf : gc_wf e) (hi : i < 6) (hz : gc_k e i ≠ 0 → gc_k e i ≠ 1 → gc_k e i ≠ 5 → z0 = nI (gc_ri0 e i))
    (hJ : J25 (nI (i + 1)) fb f1 (nI (i + 1)) f3 a1 a2 a3 (upd a4 i (nI (gc_so0 e i))) (upd a5 i (gc_nu0 e i)) (upd a6 i (gc_q0 e i)) (upd a7 i (nI (gc_lf0 e i))) (upd a8 i (nI (gc_ri0 e i))) (upd a9 i 0) a10 (upd a11 i (nI i)) a12) :
    wX_build_67 post J25 (nI i) (nI (gc_k e i)) (e.2.1 i) (e.2.2 i) z0 fb f1 (nI i) f3 a1 a2 a3 a4 a5 a6 a7 a8 a9 a10 a11 a12 := by
  obtain ⟨w1, w2, w3, w4⟩ := wf i hi
  have go : ∀ (κ l r : Nat) (p q : Int32), κ < 11 → l < 512 → r < 512 → κ = gc_so0 e i → p = gc_nu0 e i → q = gc_q0 e i → l = gc_lf0 e i → r = gc_ri0 e i →
      wpX_allocate (fun r_142 u => match u with | (b0, b1, b2, b3, c1, c2, c3, c4, c5, c6, c7, c8, c9, c10, c11, c12) => (∀ x : Int32, x = nI i + 1 → J25 x b0 b1 b2 b3 c1 c2 c3 c4 c5 c6 c7 c8 c9 c10 c11 c12)) (fb, f1, nI i, f3, a1, a2, a3, a4, a5, a6, a7, a8, a9, a10, upd a11 i (nI i), a12) (nI κ) p q (nI l) (nI r) := by
    intro κ l r p q hκ hl hr e1 e2 e3 e4 e5
    refine gc_alloc (by omega) hκ hl hr ?_
    dsimp only
    rw [e1, e2, e3, e4, e5]
    exact nm_r (nI_1 i) hJ
  have lf := gc_lf0_lt wf hi
  have rf := gc_ri0_lt wf hi
  unfold wX_build_67
  rw [nI_clamp (show i < 2 ^ 31 by omega), gc_s16 i (by omega)]
  refine ⟨pk_in i 6 hi, nm_e (pk_eq (gc_k e i) 0 (fun k0 => ?_) (fun k0 => pk_eq (gc_k e i) 1 (fun k1 => ?_) (fun k1 => pk_eq (gc_k e i) 5 (fun k5 => ?_) (fun k5 => ?_) rfl rfl (by omega) (by omega)) rfl rfl (by omega) (by omega)) rfl rfl (by omega) (by omega))⟩
  · refine go 0 0 0 _ _ (by omega) (by omega) (by omega) ?_ ?_ ?_ ?_ ?_
    · unfold gc_so0; rw [if_neg (by omega)]; exact k0.symm
    · unfold gc_nu0 gc_p0; rw [if_neg (by omega), if_pos (Or.inl k0)]
    · unfold gc_q0; rw [if_pos k0]
    · unfold gc_lf0; rw [if_pos k0]
    · rw [gc_ri0_f (by unfold gc_two; omega)]
  · rw [(w3 k0).2]
    refine go 9 _ 0 _ _ (by omega) (by have := (w3 k0).1; omega) (by omega) ?_ ?_ ?_ ?_ ?_
    · unfold gc_so0; rw [if_pos k1]
    · unfold gc_nu0; rw [if_pos k1]
    · unfold gc_q0; rw [if_neg k0]
    · unfold gc_lf0; rw [if_neg k0, if_pos (Or.inl k1)]
    · rw [gc_ri0_f (by unfold gc_two; omega)]
  · rw [(w3 k0).2]
    refine go 5 _ 0 _ _ (by omega) (by have := (w3 k0).1; omega) (by omega) ?_ ?_ ?_ ?_ ?_
    · unfold gc_so0; rw [if_neg k1]; exact k5.symm
    · unfold gc_nu0 gc_p0; rw [if_neg k1, if_pos (Or.inr k5)]
    · unfold gc_q0; rw [if_neg k0]
    · unfold gc_lf0; rw [if_neg k0, if_pos (Or.inr k5)]
    · rw [gc_ri0_f (by unfold gc_two; omega)]
  · rw [hz k0 k1 k5, (w4 k0 k1 k5).2]
    refine go _ _ _ _ _ (by omega) (by have := (w4 k0 k1 k5).1; omega) (by omega) ?_ ?_ ?_ ?_ rfl
    · unfold gc_so0; rw [if_neg k1]
    · unfold gc_nu0 gc_p0; rw [if_neg k1, if_neg (by omega)]
    · unfold gc_q0; rw [if_neg k0]
    · unfold gc_lf0; rw [if_neg k0, if_neg (by omega)]
theorem gc_b25 {post : St1 → Prop} (he : e = (a1, a2, a3)) (wf : gc_wf e)
    (hp : ∀ u, (∃ n so lf ri T J, gc_I e n so lf ri T J u) → post u) : ∀ (N i : Nat) (a4 a5 a6 a7 a8 a9 a11 : Nat → Int32), i ≤ 6 → 6 < N + i → gc_Z e i a4 a5 a6 a7 a8 a9 a11 →
      wX_build_25 post N (nI i) 1 0 (nI i) f3 a1 a2 a3 a4 a5 a6 a7 a8 a9 a10 a11 a12 := by
  intro N
  induction N with
  | zero => intro i a4 a5 a6 a7 a8 a9 a11 h1 h2; omega
  | succ N ih =>
    intro i a4 a5 a6 a7 a8 a9 a11 h1 h2 Z
    refine pk_le 6 i (fun z => ?_) (fun z => ?_) rfl rfl (by omega) (by omega)
    · obtain rfl : i = 6 := by omega
      refine hp _ ⟨6, gc_so0 e, gc_lf0 e, gc_ri0 e, fun x => x, fun _ => 0, he, rfl, rfl, rfl, fun s hs => (Z s hs).2.2.2.2.2.2, ?_, fun s hs => (Z s hs).1, fun s hs => (Z s hs).2.2.2.1, fun s hs => (Z s hs).2.2.2.2.1, fun s hs => (Z s hs).2.2.2.2.2.1⟩
      exact gc_H_build wf (fun _ _ => rfl) (fun _ _ => rfl) (fun _ _ => rfl) (fun s hs => (Z s hs).2.1) (fun s hs => (Z s hs).2.2.1)
    · obtain ⟨w1, w2, w3, w4⟩ := wf i z
      have e1 : a1 i = nI (gc_k e i) := by rw [← w1, he]
      have e2 : a2 i = e.2.1 i := by rw [he]
      have e3 : a3 i = e.2.2 i := by rw [he]
      have vi : vp_in (nI i) 6 := pk_in i 6 z
      rw [nI_clamp (show i < 2 ^ 31 by omega)]
      have key : ∀ z0 : Int32, (gc_k e i ≠ 0 → gc_k e i ≠ 1 → gc_k e i ≠ 5 → z0 = nI (gc_ri0 e i)) → wX_build_67 post (wX_build_25 post N) (nI i) (nI (gc_k e i)) (e.2.1 i) (e.2.2 i) z0 1 0 (nI i) f3 a1 a2 a3 a4 a5 a6 a7 a8 a9 a10 a11 a12 :=
        fun z0 hz => gc_b67 wf z hz (ih (i + 1) _ _ _ _ _ _ _ (by omega) (by omega) (gc_Z_s Z))
      refine ⟨vi, nm_r e1 ⟨vi, nm_r e2 ⟨vi, nm_r e3 ?_⟩⟩⟩
      refine gc_won w2 (fun o => br_f (by decide) (key _ (fun k0 k1 k5 => ?_))) (fun o => br_t rfl (key _ (fun k0 k1 k5 => ?_)))
      · have t : gc_two (gc_k e i) := by
          rcases o with o | o | o
          · omega
          · omega
          · exact o
        rw [gc_ri0_t t]; exact (w3 k0).2
      · have t : ¬ gc_two (gc_k e i) := fun q => o (Or.inr (Or.inr q))
        rw [gc_ri0_f t]; rfl
/-- an object that holds the definitions e -/
def gc_O (e : gc_Ev) (u : St1) : Prop := match u with
  | (fb, _, _, _, a1, a2, a3, _, _, _, _, _, _, _, _, _) => e = (a1, a2, a3) ∧ gc_wf e ∧ (fb = 0 ∨ ∃ n so lf ri T J, gc_I e n so lf ri T J u)
theorem gc_build {post : St1 → Prop} (O : gc_O e (fb, f1, f2, f3, a1, a2, a3, a4, a5, a6, a7, a8, a9, a10, a11, a12)) (hp : ∀ u, (∃ n so lf ri T J, gc_I e n so lf ri T J u) → post u) :
    wpX_build post (fb, f1, f2, f3, a1, a2, a3, a4, a5, a6, a7, a8, a9, a10, a11, a12) := by
  obtain ⟨he, wf, O⟩ := O
  refine ⟨fun z => ⟨7, ?_⟩, fun z => hp _ (O.resolve_left z)⟩
  exact gc_b25 he wf hp 7 0 a4 a5 a6 a7 a8 a9 a11 (by omega) (by omega) (fun s hs => absurd hs (by omega))
theorem gc_18 {post : Int32 → St1 → Prop} {s k : Nat} (hs : s < 6) (hk : k ≤ 15) (hp : ∀ r u, gc_A e s k r u → post r u) :
    ∀ (N j : Nat) (r fb f1 f2 f3 : Int32) (a1 a2 a3 a4 a5 a6 a7 a8 a9 a10 a11 a12 : Nat → Int32), j ≤ k → k < N + j → gc_A e s j r (fb, f1, f2, f3, a1, a2, a3, a4, a5, a6, a7, a8, a9, a10, a11, a12) →
      wX_reach_18 post (nI k) N r (nI j) fb f1 f2 f3 a1 a2 a3 a4 a5 a6 a7 a8 a9 a10 a11 a12 := by
  intro N
  induction N with
  | zero => intro j r fb f1 f2 f3 a1 a2 a3 a4 a5 a6 a7 a8 a9 a10 a11 a12 h1 h2; omega
  | succ N ih =>
    intro j r fb f1 f2 f3 a1 a2 a3 a4 a5 a6 a7 a8 a9 a10 a11 a12 h1 h2 A
    refine pk_le k j (fun z => ?_) (fun z => ?_) rfl rfl (by omega) (by omega)
    · obtain rfl : j = k := by omega
      exact hp _ _ A
    · obtain ⟨n, so, lf, ri, T, J, I, ⟨y, rfl, y9, hP⟩ | ⟨rfl, hN⟩⟩ := A
      · have I' := I
        obtain ⟨he, rfl, rfl, rfl, h11, H, Rs, Rl, Rr, hb⟩ := I'
        have yn := (gc_pos H hs hP).1
        have hn := gc_small H
        refine br_f (nI_pos (by omega)) ⟨pk_in y 512 (by omega), ?_⟩
        rw [nI_clamp (show y < 2 ^ 31 by omega), Rl y yn]
        refine gc_force hs (k := j + 1) (by omega) I (H.2.1 y yn).2.2.1 (gc_P_s hP y9) (fun r' u A' => ?_)
        obtain ⟨b0, b1, b2, b3, c1, c2, c3, c4, c5, c6, c7, c8, c9, c10, c11, c12⟩ := u
        exact nm_r (nI_1 j) (ih (j + 1) _ _ _ _ _ _ _ _ _ _ _ _ _ _ _ _ _ (by omega) (by omega) A')
      · refine br_t (by decide) (hp _ _ ⟨n, so, lf, ri, T, J, I, Or.inr ⟨rfl, fun m hm => hN m (by omega)⟩⟩)
theorem gc_reach {post : Int32 → St1 → Prop} {s k : Nat} (hs : s < 6) (hk : k ≤ 15) (O : gc_O e (fb, f1, f2, f3, a1, a2, a3, a4, a5, a6, a7, a8, a9, a10, a11, a12)) (hp : ∀ r u, gc_A e s k r u → post r u) :
    wpX_reach post (fb, f1, f2, f3, a1, a2, a3, a4, a5, a6, a7, a8, a9, a10, a11, a12) (nI s) (nI k) := by
  unfold wpX_reach
  dsimp only
  refine gc_build O (fun u h => ?_)
  obtain ⟨b0, b1, b2, b3, c1, c2, c3, c4, c5, c6, c7, c8, c9, c10, c11, c12⟩ := u
  obtain ⟨n, so, lf, ri, T, J, I⟩ := h
  have I' := I
  obtain ⟨he, h1, h2, h3, h11, H, Rs, Rl, Rr, hb⟩ := I'
  dsimp only
  rw [nI_clamp (show s < 2 ^ 31 by omega), h11 s hs]
  refine ⟨pk_in s 6 hs, gc_force hs (k := 0) (by omega) I (by have := H.1; omega) rfl (fun r u A => ?_)⟩
  obtain ⟨b0, b1, b2, b3, c1, c2, c3, c4, c5, c6, c7, c8, c9, c10, c11, c12⟩ := u
  exact ⟨k + 1, gc_18 hs hk hp (k + 1) 0 _ _ _ _ _ _ _ _ _ _ _ _ _ _ _ _ _ (by omega) (by omega) A⟩
/-- what ready and element answer -/
noncomputable def gc_rd (e : gc_Ev) (s k : Nat) : Int32 := @ite _ (∃ m, k < (gc_E e m s).length) (Classical.propDecidable _) 1 0
noncomputable def gc_el (e : gc_Ev) (s k : Nat) : Int32 := @dite _ (∃ v, gc_V e s k v) (Classical.propDecidable _) (fun h => Classical.choose h) (fun _ => 0)
theorem gc_rd_t {s k m : Nat} (h : k < (gc_E e m s).length) : gc_rd e s k = 1 := if_pos ⟨m, h⟩
theorem gc_rd_f {s k : Nat} (h : ∀ m, ¬ k < (gc_E e m s).length) : gc_rd e s k = 0 := if_neg (fun ⟨m, z⟩ => h m z)
theorem gc_rd_i {s k : Nat} (h : ¬ gc_rd e s k = 0) : ∃ m, k < (gc_E e m s).length := Classical.byContradiction fun z => h (if_neg z)
theorem gc_el_t {s k : Nat} {v : Int32} (h : gc_V e s k v) : gc_el e s k = v := by
  have hx : ∃ v, gc_V e s k v := ⟨v, h⟩
  unfold gc_el
  rw [dif_pos hx]
  exact gc_V_u (Classical.choose_spec hx) h
theorem gc_el_f {s k : Nat} (h : ∀ m, ¬ k < (gc_E e m s).length) : gc_el e s k = 0 := by
  have hx : ¬ ∃ v, gc_V e s k v := fun ⟨v, z⟩ => by
    obtain ⟨m, hm⟩ := gc_V_len z
    exact h m hm
  unfold gc_el
  rw [dif_neg hx]
theorem gc_A_O {s k : Nat} {r : Int32} {u : St1} (wf : gc_wf e) (A : gc_A e s k r u) : gc_O e u := by
  obtain ⟨b0, b1, b2, b3, c1, c2, c3, c4, c5, c6, c7, c8, c9, c10, c11, c12⟩ := u
  obtain ⟨n, so, lf, ri, T, J, I, _⟩ := A
  have I' := I
  obtain ⟨he, _⟩ := I'
  exact ⟨he, wf, Or.inr ⟨n, so, lf, ri, T, J, I⟩⟩
theorem gc_seq {post : Int32 → Prop} {u : St1} {s : Nat} (hs : s < 6) (hp : post 1) : wpX_isSequence post u (nI s) := by
  obtain ⟨b0, b1, b2, b3, c1, c2, c3, c4, c5, c6, c7, c8, c9, c10, c11, c12⟩ := u
  exact br_f (nI_pos (by omega)) (br_f (nI_nlt (a := 5) (b := s) (by omega) (by omega)) hp)
end
theorem gc_ready {post : Int32 → St1 → Prop} {e : gc_Ev} {u : St1} {s k : Nat} (O : gc_O e u) (hs : s < 6) (hk : k ≤ 15) (hp : ∀ u', gc_O e u' → post (gc_rd e s k) u') : wpX_ready post u (nI s) (nI k) := by
  obtain ⟨b0, b1, b2, b3, c1, c2, c3, c4, c5, c6, c7, c8, c9, c10, c11, c12⟩ := u
  have wf := O.2.1
  unfold wpX_ready
  dsimp only
  refine gc_seq hs (br_f (by decide) (br_f (nI_pos (by omega)) (br_t (nI_le (a := k) (b := 15) hk (by omega)) (gc_reach hs hk O (fun r u A => ?_)))))
  have O' := gc_A_O wf A
  obtain ⟨b0, b1, b2, b3, c1, c2, c3, c4, c5, c6, c7, c8, c9, c10, c11, c12⟩ := u
  have hq := hp _ O'
  obtain ⟨n, so, lf, ri, T, J, I, ⟨y, rfl, y9, hP⟩ | ⟨rfl, hN⟩⟩ := A
  · obtain ⟨he, _, _, _, h11, H, Rs, Rl, Rr, hb⟩ := I
    have yn := (gc_pos H hs hP).1
    have hn := gc_small H
    obtain ⟨m, hm⟩ := gc_V_len (gc_at_V H hs hP y9)
    rw [gc_rd_t hm] at hq
    exact br_f (nI_pos (by omega)) hq
  · rw [gc_rd_f hN] at hq
    exact br_t (by decide) hq
theorem gc_element {post : Int32 → St1 → Prop} {e : gc_Ev} {u : St1} {s k : Nat} (O : gc_O e u) (hs : s < 6) (hk : k ≤ 15) (hp : ∀ u', gc_O e u' → post (gc_el e s k) u') : wpX_element post u (nI s) (nI k) := by
  obtain ⟨b0, b1, b2, b3, c1, c2, c3, c4, c5, c6, c7, c8, c9, c10, c11, c12⟩ := u
  have wf := O.2.1
  unfold wpX_element
  dsimp only
  refine gc_seq hs (br_f (by decide) (br_f (nI_pos (by omega)) (br_t (nI_le (a := k) (b := 15) hk (by omega)) (gc_reach hs hk O (fun r u A => ?_)))))
  have O' := gc_A_O wf A
  obtain ⟨b0, b1, b2, b3, c1, c2, c3, c4, c5, c6, c7, c8, c9, c10, c11, c12⟩ := u
  have hq := hp _ O'
  obtain ⟨n, so, lf, ri, T, J, I, ⟨y, rfl, y9, hP⟩ | ⟨rfl, hN⟩⟩ := A
  · obtain ⟨he, _, _, _, h11, H, Rs, Rl, Rr, hb⟩ := I
    have yn := (gc_pos H hs hP).1
    have hn := gc_small H
    rw [gc_el_t (gc_at_V H hs hP y9)] at hq
    refine br_t (nI_pos' (by omega)) ⟨pk_in y 512 (by omega), ?_⟩
    rw [nI_clamp (show y < 2 ^ 31 by omega)]
    exact hq
  · rw [gc_el_f hN] at hq
    exact br_f (by decide) hq
/-- one more definition -/
def gc_df (e : gc_Ev) (s κ : Nat) (A B : Int32) : gc_Ev := (upd e.1 s (nI κ), upd e.2.1 s A, upd e.2.2 s B)
theorem gc_wf_df {e : gc_Ev} {s κ : Nat} {A B : Int32} (wf : gc_wf e) (hk : κ ≤ 8) (ha : κ ≠ 0 → κ ≠ 1 → κ ≠ 5 → ∃ a, a < 6 ∧ A = nI a) (hb : κ ≠ 0 → ∃ b, b < 6 ∧ B = nI b) : gc_wf (gc_df e s κ A B) := by
  intro t ht
  by_cases c : t = s
  · have k1 : gc_k (gc_df e s κ A B) t = κ := by
      unfold gc_k gc_df
      dsimp only
      rw [c, pk_us]; exact nI_clamp (by omega)
    rw [k1]
    refine ⟨?_, hk, fun h0 => ?_, fun h0 h1 h5 => ?_⟩
    · unfold gc_df
      dsimp only
      rw [c, pk_us]
    · obtain ⟨b, hb1, hb2⟩ := hb h0
      have k2 : gc_b (gc_df e s κ A B) t = b := by
        unfold gc_b gc_df
        dsimp only
        rw [c, pk_us, hb2]; exact nI_clamp (by omega)
      rw [k2]
      refine ⟨hb1, ?_⟩
      unfold gc_df
      dsimp only
      rw [c, pk_us]; exact hb2
    · obtain ⟨a, ha1, ha2⟩ := ha h0 h1 h5
      have k2 : gc_a (gc_df e s κ A B) t = a := by
        unfold gc_a gc_df
        dsimp only
        rw [c, pk_us, ha2]; exact nI_clamp (by omega)
      rw [k2]
      refine ⟨ha1, ?_⟩
      unfold gc_df
      dsimp only
      rw [c, pk_us]; exact ha2
  · have := wf t ht
    unfold gc_k gc_a gc_b gc_df at *
    dsimp only
    rw [pk_un c, pk_un c, pk_un c]; exact this
theorem gc_woa {post : Int32 → Prop} {u : St1} {κ : Nat} (hk : κ ≤ 8) (h1 : 2 ≤ κ → κ ≠ 5 → post 1) (h0 : κ < 2 ∨ κ = 5 → post 0) : wpX_worksOnA post u (nI κ) := by
  obtain ⟨b1, b2, b3, b4, c1, c2, c3, c4, c5, c6, c7, c8, c9, c10, c11, c12⟩ := u
  exact pk_lt κ 2 (fun z => h0 (Or.inl z)) (fun z => pk_eq κ 5 (fun z5 => h0 (Or.inr z5)) (fun z5 => h1 z z5) rfl rfl (by omega) (by omega)) rfl rfl (by omega) (by omega)
theorem gc_b8' : ∀ k, k < 9 → (nI k).toInt8.toInt32 = nI k := fun k hk => gc_b8 k (by omega)
theorem gc_define {post : Int32 → St1 → Prop} {e : gc_Ev} {u : St1} {s κ : Nat} {A B : Int32} (O : gc_O e u) (hs : s < 6) (hk : κ ≤ 8) (ha : κ ≠ 0 → κ ≠ 1 → κ ≠ 5 → ∃ a, a < 6 ∧ A = nI a) (hb : κ ≠ 0 → ∃ b, b < 6 ∧ B = nI b)
    (hp : ∀ u', gc_O (gc_df e s κ A B) u' → post 1 u') : wpX_define post u (nI s) (nI κ) A B := by
  obtain ⟨b0, b1, b2, b3, c1, c2, c3, c4, c5, c6, c7, c8, c9, c10, c11, c12⟩ := u
  obtain ⟨he, wf, _⟩ := O
  have vs : vp_in (nI s) 6 := pk_in s 6 hs
  have g57 : wX_define_57 post (nI s) (nI κ) A B b0 b1 b2 b3 c1 c2 c3 c4 c5 c6 c7 c8 c9 c10 c11 c12 := by
    unfold wX_define_57
    rw [nI_clamp (show s < 2 ^ 31 by omega), gc_b8' κ (by omega)]
    refine ⟨vs, nm_e ⟨vs, nm_e ⟨vs, nm_e (hp _ ⟨?_, gc_wf_df wf hk ha hb, Or.inl rfl⟩)⟩⟩⟩
    unfold gc_df
    rw [he]
  have g38 : wX_define_38 post (nI s) (nI κ) A B b0 b1 b2 b3 c1 c2 c3 c4 c5 c6 c7 c8 c9 c10 c11 c12 := by
    unfold wX_define_38
    refine gc_won hk (fun o => br_f (by decide) ?_) (fun o => br_t rfl g57)
    obtain ⟨b, hb1, hb2⟩ := hb (by unfold gc_two at o; omega)
    rw [hb2]
    refine gc_seq hb1 (br_f (by decide) ?_)
    rw [← hb2]; exact g57
  unfold wpX_define
  dsimp only
  refine gc_seq hs (br_f (by decide) (br_f (nI_pos (by omega)) (br_t (nI_le (a := κ) (b := 8) hk (by omega)) (gc_woa hk (fun h2 h5 => br_f (by decide) ?_) (fun _ => br_t rfl g38)))))
  obtain ⟨a, ha1, ha2⟩ := ha (by omega) (by omega) h5
  rw [ha2]
  refine gc_seq ha1 (br_f (by decide) ?_)
  rw [← ha2]; exact g38
end
section
/-! the law -/
theorem gc_rd_s {e : gc_Ev} {s k : Nat} (h : ¬ gc_rd e s (k + 1) = 0) : ¬ gc_rd e s k = 0 := by
  obtain ⟨m, hm⟩ := gc_rd_i h
  rw [gc_rd_t (m := m) (by omega)]; decide
theorem gc_c0 {e : gc_Ev} {s : Nat} (h : gc_k e s = 1) : gc_rd e s 0 = 1 ∧ gc_el e s 0 = e.2.1 s := by
  refine ⟨gc_rd_t (m := 1) ?_, gc_el_t ⟨1, gc_E e 0 (gc_b e s), ?_⟩⟩
  · rw [gc_E1 0 h, List.length_cons]; omega
  · rw [gc_E1 0 h]; rfl
theorem gc_cs {e : gc_Ev} {s k : Nat} (h : gc_k e s = 1) (hr : ¬ gc_rd e s (k + 1) = 0) : gc_el e s (k + 1) = gc_el e (gc_b e s) k := by
  obtain ⟨m, hm⟩ := gc_rd_i hr
  obtain ⟨v, n, l, hv⟩ := gc_V_of hm
  rw [gc_el_t (v := v) ⟨n, l, hv⟩]
  cases n with
  | zero =>
    rw [gc_E, List.drop_nil] at hv
    exact absurd hv (by intro z; cases z)
  | succ n =>
    rw [gc_E1 n h, List.drop_succ_cons] at hv
    exact (gc_el_t ⟨n, l, hv⟩).symm
def gc_j1 (J : Int32 → Int32 → Int32 → Int32 → Int32 → (Nat → Int32) → (Nat → Int32) → (Nat → Int32) → (Nat → Int32) → (Nat → Int32) → (Nat → Int32) → (Nat → Int32) → (Nat → Int32) → (Nat → Int32) → (Nat → Int32) → (Nat → Int32) → (Nat → Int32) → Prop) (x : Int32) (u : St1) : Prop := match u with
  | (b0, b1, b2, b3, c1, c2, c3, c4, c5, c6, c7, c8, c9, c10, c11, c12) => J x b0 b1 b2 b3 c1 c2 c3 c4 c5 c6 c7 c8 c9 c10 c11 c12
theorem gc_71 {post : Int32 → St1 → Prop} {e : gc_Ev} {s : Nat} (hs : s < 6) (h1 : gc_k e s = 1) (hb : gc_b e s < 6) (hp : ∀ u, gc_O e u → post 1 u) :
    ∀ (N j : Nat) (u : St1), j ≤ 15 → 15 < N + j → gc_O e u → gc_j1 (wL_holds_71 post (nI s) (nI (gc_b e s)) N) (nI (j + 1)) u := by
  intro N
  induction N with
  | zero => intro j u h2 h3; omega
  | succ N ih =>
    intro j u h2 h3 O
    obtain ⟨b0, b1, b2, b3, c1, c2, c3, c4, c5, c6, c7, c8, c9, c10, c11, c12⟩ := u
    refine pk_le 16 (j + 1) (fun z => hp _ O) (fun z => ?_) rfl rfl (by omega) (by omega)
    refine gc_ready O hs (k := j + 1) (by omega) (fun u O1 => ?_)
    obtain ⟨b0, b1, b2, b3, c1, c2, c3, c4, c5, c6, c7, c8, c9, c10, c11, c12⟩ := u
    refine ⟨fun q => nm_r (nI_1 (j + 1)) (ih (j + 1) (b0, b1, b2, b3, c1, c2, c3, c4, c5, c6, c7, c8, c9, c10, c11, c12) (by omega) (by omega) O1), fun q => ?_⟩
    refine gc_element O1 hs (k := j + 1) (by omega) (fun u O2 => ?_)
    obtain ⟨b0, b1, b2, b3, c1, c2, c3, c4, c5, c6, c7, c8, c9, c10, c11, c12⟩ := u
    dsimp only
    rw [nI_pred]
    refine gc_element O2 hb (k := j) (by omega) (fun u O3 => ?_)
    obtain ⟨b0, b1, b2, b3, c1, c2, c3, c4, c5, c6, c7, c8, c9, c10, c11, c12⟩ := u
    exact br_t (gc_cs h1 q) (nm_r (nI_1 (j + 1)) (ih (j + 1) (b0, b1, b2, b3, c1, c2, c3, c4, c5, c6, c7, c8, c9, c10, c11, c12) (by omega) (by omega) O3))
theorem gc_3 {post : Int32 → St1 → Prop} {e : gc_Ev} {s : Nat} {x2 x3 x4 : Int32} (hs : s < 6) (hc : x2 = 1 → gc_k e s = 1 ∧ e.2.1 s = x3 ∧ x4 = nI (gc_b e s) ∧ gc_b e s < 6) (hp : ∀ u, gc_O e u → post 1 u) :
    ∀ (N j : Nat) (u : St1), j ≤ 15 → 15 < N + j → gc_O e u → gc_j1 (wL_holds_3 post (nI s) x2 x3 x4 N) (nI (j + 1)) u := by
  intro N
  induction N with
  | zero => intro j u h2 h3; omega
  | succ N ih =>
    intro j u h2 h3 O
    obtain ⟨b0, b1, b2, b3, c1, c2, c3, c4, c5, c6, c7, c8, c9, c10, c11, c12⟩ := u
    refine pk_le 16 (j + 1) (fun z => ⟨fun q => ?_, fun q => hp _ O⟩) (fun z => ?_) rfl rfl (by omega) (by omega)
    · obtain ⟨k1, k2, k3, k4⟩ := hc q
      have q0 := gc_c0 k1
      refine gc_ready O hs (k := 0) (by omega) (fun u O1 => ?_)
      obtain ⟨b0, b1, b2, b3, c1, c2, c3, c4, c5, c6, c7, c8, c9, c10, c11, c12⟩ := u
      refine br_f (by rw [q0.1]; decide) ?_
      refine gc_element O1 hs (k := 0) (by omega) (fun u O2 => ?_)
      obtain ⟨b0, b1, b2, b3, c1, c2, c3, c4, c5, c6, c7, c8, c9, c10, c11, c12⟩ := u
      refine br_t (by rw [q0.2]; exact k2) ⟨16, ?_⟩
      rw [k3]
      exact gc_71 hs k1 k4 hp 16 0 (b0, b1, b2, b3, c1, c2, c3, c4, c5, c6, c7, c8, c9, c10, c11, c12) (by omega) (by omega) O2
    · refine gc_ready O hs (k := j + 1) (by omega) (fun u O1 => ?_)
      obtain ⟨b0, b1, b2, b3, c1, c2, c3, c4, c5, c6, c7, c8, c9, c10, c11, c12⟩ := u
      refine ⟨fun q => nm_r (nI_1 (j + 1)) (ih (j + 1) (b0, b1, b2, b3, c1, c2, c3, c4, c5, c6, c7, c8, c9, c10, c11, c12) (by omega) (by omega) O1), fun q => ?_⟩
      dsimp only
      rw [nI_pred]
      refine gc_ready O1 hs (k := j) (by omega) (fun u O2 => ?_)
      obtain ⟨b0, b1, b2, b3, c1, c2, c3, c4, c5, c6, c7, c8, c9, c10, c11, c12⟩ := u
      exact br_f (gc_rd_s q) (nm_r (nI_1 (j + 1)) (ih (j + 1) (b0, b1, b2, b3, c1, c2, c3, c4, c5, c6, c7, c8, c9, c10, c11, c12) (by omega) (by omega) O2))
theorem gc_holds {post : Int32 → St1 → Prop} {e : gc_Ev} {u : St1} {s : Nat} {x2 x3 x4 : Int32} (O : gc_O e u) (hs : s < 6) (hc : x2 = 1 → gc_k e s = 1 ∧ e.2.1 s = x3 ∧ x4 = nI (gc_b e s) ∧ gc_b e s < 6) (hp : ∀ u, gc_O e u → post 1 u) : wpL_holds post u (nI s) x2 x3 x4 := by
  obtain ⟨b0, b1, b2, b3, c1, c2, c3, c4, c5, c6, c7, c8, c9, c10, c11, c12⟩ := u
  exact ⟨16, gc_3 hs hc hp 16 0 (b0, b1, b2, b3, c1, c2, c3, c4, c5, c6, c7, c8, c9, c10, c11, c12) (by omega) (by omega) O⟩
def gc_j2 (J : Int32 → Int32 → Int32 → Int32 → Int32 → (Nat → Int32) → (Nat → Int32) → (Nat → Int32) → (Nat → Int32) → (Nat → Int32) → (Nat → Int32) → (Nat → Int32) → (Nat → Int32) → (Nat → Int32) → (Nat → Int32) → (Nat → Int32) → (Nat → Int32) → Int32 → Int32 → Int32 → Int32 → (Nat → Int32) → (Nat → Int32) → (Nat → Int32) → (Nat → Int32) → (Nat → Int32) → (Nat → Int32) → (Nat → Int32) → (Nat → Int32) → (Nat → Int32) → (Nat → Int32) → (Nat → Int32) → (Nat → Int32) → Prop) (x : Int32) (u v : St1) : Prop := match u, v with
  | (b0, b1, b2, b3, c1, c2, c3, c4, c5, c6, c7, c8, c9, c10, c11, c12), (d0, d1, d2, d3, g1, g2, g3, g4, g5, g6, g7, g8, g9, g10, g11, g12) => J x b0 b1 b2 b3 c1 c2 c3 c4 c5 c6 c7 c8 c9 c10 c11 c12 d0 d1 d2 d3 g1 g2 g3 g4 g5 g6 g7 g8 g9 g10 g11 g12
def gc_s2u (u v : St1) : St2 := match u, v with
  | (b0, b1, b2, b3, c1, c2, c3, c4, c5, c6, c7, c8, c9, c10, c11, c12), (d0, d1, d2, d3, g1, g2, g3, g4, g5, g6, g7, g8, g9, g10, g11, g12) => (b0, b1, b2, b3, c1, c2, c3, c4, c5, c6, c7, c8, c9, c10, c11, c12, d0, d1, d2, d3, g1, g2, g3, g4, g5, g6, g7, g8, g9, g10, g11, g12)
theorem gc_s8 {post : Int32 → St2 → Prop} {J : Int32 → Int32 → Int32 → Int32 → Int32 → (Nat → Int32) → (Nat → Int32) → (Nat → Int32) → (Nat → Int32) → (Nat → Int32) → (Nat → Int32) → (Nat → Int32) → (Nat → Int32) → (Nat → Int32) → (Nat → Int32) → (Nat → Int32) → (Nat → Int32) → Int32 → Int32 → Int32 → Int32 → (Nat → Int32) → (Nat → Int32) → (Nat → Int32) → (Nat → Int32) → (Nat → Int32) → (Nat → Int32) → (Nat → Int32) → (Nat → Int32) → (Nat → Int32) → (Nat → Int32) → (Nat → Int32) → (Nat → Int32) → Prop} {e : gc_Ev} {s : Nat} (hs : s < 6) (hJ : ∀ u v, gc_O e u → gc_O e v → gc_j2 J (nI s + (-1)) u v) :
    ∀ (N j : Nat) (u v : St1), j ≤ 16 → 16 < N + j → gc_O e u → gc_O e v → gc_j2 (wL_same_8 post J (nI s) N) (nI j) u v := by
  intro N
  induction N with
  | zero => intro j u v h2 h3; omega
  | succ N ih =>
    intro j u v h2 h3 O P
    obtain ⟨b0, b1, b2, b3, c1, c2, c3, c4, c5, c6, c7, c8, c9, c10, c11, c12⟩ := u
    obtain ⟨d0, d1, d2, d3, g1, g2, g3, g4, g5, g6, g7, g8, g9, g10, g11, g12⟩ := v
    refine pk_le 16 j (fun z => nm_e (hJ (b0, b1, b2, b3, c1, c2, c3, c4, c5, c6, c7, c8, c9, c10, c11, c12) (d0, d1, d2, d3, g1, g2, g3, g4, g5, g6, g7, g8, g9, g10, g11, g12) O P)) (fun z => ?_) rfl rfl (by omega) (by omega)
    refine gc_ready O hs (by omega) (fun u O1 => ?_)
    obtain ⟨b0, b1, b2, b3, c1, c2, c3, c4, c5, c6, c7, c8, c9, c10, c11, c12⟩ := u
    refine gc_ready P hs (by omega) (fun v P1 => ?_)
    obtain ⟨d0, d1, d2, d3, g1, g2, g3, g4, g5, g6, g7, g8, g9, g10, g11, g12⟩ := v
    refine br_t rfl ?_
    refine gc_element O1 hs (by omega) (fun u O2 => ?_)
    obtain ⟨b0, b1, b2, b3, c1, c2, c3, c4, c5, c6, c7, c8, c9, c10, c11, c12⟩ := u
    refine gc_element P1 hs (by omega) (fun v P2 => ?_)
    obtain ⟨d0, d1, d2, d3, g1, g2, g3, g4, g5, g6, g7, g8, g9, g10, g11, g12⟩ := v
    exact br_t rfl (nm_r (nI_1 j) (ih (j + 1) (b0, b1, b2, b3, c1, c2, c3, c4, c5, c6, c7, c8, c9, c10, c11, c12) (d0, d1, d2, d3, g1, g2, g3, g4, g5, g6, g7, g8, g9, g10, g11, g12) (by omega) (by omega) O2 P2))
theorem gc_s2 {post : Int32 → St2 → Prop} {e : gc_Ev} (hp : ∀ u, post 1 u) :
    ∀ (N d : Nat) (u v : St1), d ≤ 6 → d < N → gc_O e u → gc_O e v → gc_j2 (wL_same_2 post N) (nI d + (-1)) u v := by
  intro N
  induction N with
  | zero => intro d u v h2 h3; omega
  | succ N ih =>
    intro d u v h2 h3 O P
    obtain ⟨b0, b1, b2, b3, c1, c2, c3, c4, c5, c6, c7, c8, c9, c10, c11, c12⟩ := u
    obtain ⟨d0, d1, d2, d3, g1, g2, g3, g4, g5, g6, g7, g8, g9, g10, g11, g12⟩ := v
    cases d with
    | zero => exact br_t (by decide) (hp _)
    | succ s =>
      rw [pk_m1]
      refine br_f (nI_pos (by omega)) ⟨17, ?_⟩
      exact gc_s8 (by omega) (fun u v O P => ih s u v (by omega) (by omega) O P) 17 0 (b0, b1, b2, b3, c1, c2, c3, c4, c5, c6, c7, c8, c9, c10, c11, c12) (d0, d1, d2, d3, g1, g2, g3, g4, g5, g6, g7, g8, g9, g10, g11, g12) (by omega) (by omega) O P
theorem gc_same {post : Int32 → St2 → Prop} {e : gc_Ev} {u v : St1} (O : gc_O e u) (P : gc_O e v) (hp : ∀ u, post 1 u) : wpL_same post (gc_s2u u v) := by
  obtain ⟨b0, b1, b2, b3, c1, c2, c3, c4, c5, c6, c7, c8, c9, c10, c11, c12⟩ := u
  obtain ⟨d0, d1, d2, d3, g1, g2, g3, g4, g5, g6, g7, g8, g9, g10, g11, g12⟩ := v
  exact ⟨7, gc_s2 hp 7 6 (b0, b1, b2, b3, c1, c2, c3, c4, c5, c6, c7, c8, c9, c10, c11, c12) (d0, d1, d2, d3, g1, g2, g3, g4, g5, g6, g7, g8, g9, g10, g11, g12) (by omega) (by omega) O P⟩
theorem gc_rem (x : Int32) {d : Nat} (h0 : 0 < d) (hd : d < 2 ^ 31) : ∃ j : Nat, j < d ∧ (x &&& 255) - (x &&& 255) / nI d * nI d = nI j := by
  obtain ⟨j, hj, e⟩ := pk_andE x (m := 255) 8 (by decide)
  rw [e]
  exact ⟨j % d, Nat.mod_lt _ h0, pk_rem (by omega) h0 hd⟩
theorem gc_rem6 (x : Int32) : ∃ j : Nat, j < 6 ∧ (x &&& 255) - (x &&& 255) / 6 * 6 = nI j := gc_rem x (d := 6) (by omega) (by omega)
theorem gc_rem5 (x : Int32) : ∃ j : Nat, j < 5 ∧ (x &&& 255) - (x &&& 255) / 5 * 5 = nI j := gc_rem x (d := 5) (by omega) (by omega)
theorem gc_rem9 (x : Int32) : ∃ j : Nat, j < 9 ∧ (x &&& 255) - (x &&& 255) / 9 * 9 = nI j := gc_rem x (d := 9) (by omega) (by omega)
theorem gc_m15 (x : Int32) : ∃ j : Nat, j < 16 ∧ x &&& 15 = nI j := pk_andE x (m := 15) 4 (by decide)
section
variable {L : Nat} {xs : Nat → Int32} {J : Int32 → Int32 → Int32 → Int32 → Int32 → (Nat → Int32) → (Nat → Int32) → (Nat → Int32) → (Nat → Int32) → (Nat → Int32) → (Nat → Int32) → (Nat → Int32) → (Nat → Int32) → (Nat → Int32) → (Nat → Int32) → (Nat → Int32) → (Nat → Int32) → Int32 → Int32 → Int32 → Int32 → (Nat → Int32) → (Nat → Int32) → (Nat → Int32) → (Nat → Int32) → (Nat → Int32) → (Nat → Int32) → (Nat → Int32) → (Nat → Int32) → (Nat → Int32) → (Nat → Int32) → (Nat → Int32) → (Nat → Int32) → Prop} {e : gc_Ev} {i kc ks : Nat}
theorem gc_234 {u v : St1} {x9 : Int32} (O : gc_O e u) (P : gc_O e v) (hJ : ∀ u v, gc_O e u → gc_O e v → gc_j2 J (nI (i + 5)) u v) :
    gc_j2 (fun x => wL_law_234 (fun r => r = 1) L xs J x x9 kc ks) (nI i) u v := by
  obtain ⟨b0, b1, b2, b3, c1, c2, c3, c4, c5, c6, c7, c8, c9, c10, c11, c12⟩ := u
  obtain ⟨d0, d1, d2, d3, g1, g2, g3, g4, g5, g6, g7, g8, g9, g10, g11, g12⟩ := v
  refine ⟨fun z => ⟨by decide, ?_⟩, fun z => nm_r (nI_add i 5) (hJ (b0, b1, b2, b3, c1, c2, c3, c4, c5, c6, c7, c8, c9, c10, c11, c12) (d0, d1, d2, d3, g1, g2, g3, g4, g5, g6, g7, g8, g9, g10, g11, g12) O P)⟩
  obtain ⟨s, hs, es⟩ := gc_rem6 x9
  rw [es]
  refine gc_holds O hs (fun q => absurd q (by decide)) (fun u O1 => ?_)
  obtain ⟨b0, b1, b2, b3, c1, c2, c3, c4, c5, c6, c7, c8, c9, c10, c11, c12⟩ := u
  exact br_f (by decide) (nm_r (nI_add i 5) (hJ (b0, b1, b2, b3, c1, c2, c3, c4, c5, c6, c7, c8, c9, c10, c11, c12) (d0, d1, d2, d3, g1, g2, g3, g4, g5, g6, g7, g8, g9, g10, g11, g12) O1 P))
theorem gc_128 {u v : St1} {s κ : Nat} {A B : Int32} (hL : L ≤ 260) (hi : i + 5 ≤ L) (O : gc_O e u) (P : gc_O e v) (hs : s < 6) (hk : κ ≤ 8) (ha : κ ≠ 0 → κ ≠ 1 → κ ≠ 5 → ∃ a, a < 6 ∧ A = nI a) (hb : κ ≠ 0 → ∃ b, b < 6 ∧ B = nI b)
    (hJ : ∀ e u v, gc_O e u → gc_O e v → gc_j2 J (nI (i + 5)) u v) :
    gc_j2 (fun x => wL_law_128 (fun r => r = 1) L xs J x (nI s) (nI κ) A B kc ks) (nI i) u v := by
  obtain ⟨b0, b1, b2, b3, c1, c2, c3, c4, c5, c6, c7, c8, c9, c10, c11, c12⟩ := u
  obtain ⟨d0, d1, d2, d3, g1, g2, g3, g4, g5, g6, g7, g8, g9, g10, g11, g12⟩ := v
  unfold gc_j2
  dsimp only
  unfold wL_law_128
  refine gc_define O hs hk ha hb (fun u O1 => ?_)
  obtain ⟨b0, b1, b2, b3, c1, c2, c3, c4, c5, c6, c7, c8, c9, c10, c11, c12⟩ := u
  refine br_f (by decide) ?_
  refine gc_define P hs hk ha hb (fun v P1 => ?_)
  obtain ⟨d0, d1, d2, d3, g1, g2, g3, g4, g5, g6, g7, g8, g9, g10, g11, g12⟩ := v
  refine br_f (by decide) ⟨pk_in (i + 4) L (by omega) (nI_add i 4), nm_e ⟨by decide, ?_⟩⟩
  generalize xs (nI i + 4).toNatClampNeg = x9
  obtain ⟨s6, hs6, es6⟩ := gc_rem6 x9
  obtain ⟨s5, hs5, es5⟩ := gc_rem5 x9
  obtain ⟨k3, hk3, ek3⟩ := gc_m15 (x9 >>> ((3 : Int32) &&& 31))
  obtain ⟨k1, hk1, ek1⟩ := gc_m15 (x9 >>> ((1 : Int32) &&& 31))
  rw [es6, ek3]
  refine gc_element P1 hs6 (by omega) (fun v P2 => ?_)
  obtain ⟨d0, d1, d2, d3, g1, g2, g3, g4, g5, g6, g7, g8, g9, g10, g11, g12⟩ := v
  dsimp only
  rw [es5, ek1]
  refine ⟨by decide, gc_ready P2 (by omega) (by omega) (fun v P3 => ?_)⟩
  obtain ⟨d0, d1, d2, d3, g1, g2, g3, g4, g5, g6, g7, g8, g9, g10, g11, g12⟩ := v
  refine ⟨fun z => ?_, fun z => gc_234 (L := L) (xs := xs) (kc := kc) (ks := ks) (u := (b0, b1, b2, b3, c1, c2, c3, c4, c5, c6, c7, c8, c9, c10, c11, c12)) (v := (d0, d1, d2, d3, g1, g2, g3, g4, g5, g6, g7, g8, g9, g10, g11, g12)) O1 P3 (hJ _)⟩
  have wf := O1.2.1
  refine gc_holds P3 hs (fun q => ?_) (fun v P4 => ?_)
  · have q1 : κ = 1 := (nI_eq (a := κ) (b := 1) (by omega) (by omega)).mp q
    have kk : gc_k (gc_df e s κ A B) s = 1 := by
      unfold gc_k gc_df
      dsimp only
      rw [pk_us, q1]; rfl
    obtain ⟨b, hb1, hb2⟩ := hb (by omega)
    have kb : gc_b (gc_df e s κ A B) s = b := by
      unfold gc_b gc_df
      dsimp only
      rw [pk_us, hb2]; exact nI_clamp (by omega)
    refine ⟨kk, ?_, ?_, ?_⟩
    · unfold gc_df
      dsimp only
      rw [pk_us]
    · rw [kb]; exact hb2
    · rw [kb]; exact hb1
  · obtain ⟨d0, d1, d2, d3, g1, g2, g3, g4, g5, g6, g7, g8, g9, g10, g11, g12⟩ := v
    exact br_f (by decide) (gc_234 (L := L) (xs := xs) (kc := kc) (ks := ks) (u := (b0, b1, b2, b3, c1, c2, c3, c4, c5, c6, c7, c8, c9, c10, c11, c12)) (v := (d0, d1, d2, d3, g1, g2, g3, g4, g5, g6, g7, g8, g9, g10, g11, g12)) O1 P4 (hJ _))
theorem gc_101 {u v : St1} {s κ : Nat} {A : Int32} (hL : L ≤ 260) (hi : i + 5 ≤ L) (O : gc_O e u) (P : gc_O e v) (hs : s < 6) (hk : κ ≤ 8) (ha : κ ≠ 0 → κ ≠ 1 → κ ≠ 5 → ∃ a, a < 6 ∧ A = nI a)
    (hJ : ∀ e u v, gc_O e u → gc_O e v → gc_j2 J (nI (i + 5)) u v) :
    gc_j2 (fun x => wL_law_101 (fun r => r = 1) L xs J x (nI s) (nI κ) A kc ks) (nI i) u v := by
  obtain ⟨b0, b1, b2, b3, c1, c2, c3, c4, c5, c6, c7, c8, c9, c10, c11, c12⟩ := u
  obtain ⟨d0, d1, d2, d3, g1, g2, g3, g4, g5, g6, g7, g8, g9, g10, g11, g12⟩ := v
  have v3 : vp_in (nI i + 3) L := pk_in (i + 3) L (by omega) (nI_add i 3)
  refine pk_eq κ 0 (fun z => ⟨v3, ?_⟩) (fun z => ⟨v3, by decide, ?_⟩) rfl rfl (by omega) (by omega)
  · exact gc_128 (u := (b0, b1, b2, b3, c1, c2, c3, c4, c5, c6, c7, c8, c9, c10, c11, c12)) (v := (d0, d1, d2, d3, g1, g2, g3, g4, g5, g6, g7, g8, g9, g10, g11, g12)) hL hi O P hs hk ha (fun q => absurd z q) hJ
  · obtain ⟨b, hb, eb⟩ := gc_rem6 (xs (nI i + 3).toNatClampNeg)
    exact gc_128 (u := (b0, b1, b2, b3, c1, c2, c3, c4, c5, c6, c7, c8, c9, c10, c11, c12)) (v := (d0, d1, d2, d3, g1, g2, g3, g4, g5, g6, g7, g8, g9, g10, g11, g12)) hL hi O P hs hk ha (fun _ => ⟨b, hb, eb⟩) hJ
theorem gc_74 {u v : St1} {s κ : Nat} {z0 : Int32} (hL : L ≤ 260) (hi : i + 5 ≤ L) (O : gc_O e u) (P : gc_O e v) (hs : s < 6) (hk : κ ≤ 8) (hz : κ ≠ 0 → κ ≠ 1 → κ ≠ 5 → z0 = 0)
    (hJ : ∀ e u v, gc_O e u → gc_O e v → gc_j2 J (nI (i + 5)) u v) :
    gc_j2 (fun x => wL_law_74 (fun r => r = 1) L xs J x (nI s) (nI κ) z0 kc ks) (nI i) u v := by
  obtain ⟨b0, b1, b2, b3, c1, c2, c3, c4, c5, c6, c7, c8, c9, c10, c11, c12⟩ := u
  obtain ⟨d0, d1, d2, d3, g1, g2, g3, g4, g5, g6, g7, g8, g9, g10, g11, g12⟩ := v
  have v2 : vp_in (nI i + 2) L := pk_in (i + 2) L (by omega) (nI_add i 2)
  refine ⟨fun z => ⟨v2, by decide, ?_⟩, fun z => ⟨v2, ?_⟩⟩
  · obtain ⟨a, ha, ea⟩ := gc_rem6 (xs (nI i + 2).toNatClampNeg)
    exact gc_101 (u := (b0, b1, b2, b3, c1, c2, c3, c4, c5, c6, c7, c8, c9, c10, c11, c12)) (v := (d0, d1, d2, d3, g1, g2, g3, g4, g5, g6, g7, g8, g9, g10, g11, g12)) hL hi O P hs hk (fun _ _ _ => ⟨a, ha, ea⟩) hJ
  · exact gc_101 (u := (b0, b1, b2, b3, c1, c2, c3, c4, c5, c6, c7, c8, c9, c10, c11, c12)) (v := (d0, d1, d2, d3, g1, g2, g3, g4, g5, g6, g7, g8, g9, g10, g11, g12)) hL hi O P hs hk (fun h0 h1 h5 => absurd (hz h0 h1 h5) z) hJ
end
theorem gc_ge {L i : Nat} (hL : L ≤ 260) (hi : i ≤ 260) : (Int32.ofNat L) - 5 < nI i ↔ L < i + 5 := by
  have h : ((Int32.ofNat L) - 5).toInt = (L : Int) - 5 := pk_sub_toInt (a := L) (b := 5) (by omega) (by omega)
  rw [Int32.lt_iff_toInt_lt, h, nI_toInt (by omega)]
  omega
theorem gc_main {L : Nat} {xs : Nat → Int32} {kc ks : Nat} (hL : L ≤ 260) : ∀ (N i : Nat) (e : gc_Ev) (u v : St1), i ≤ L → L < 5 * N + i → gc_O e u → gc_O e v → gc_j2 (wL_law_18 (fun r => r = 1) L xs kc ks N) (nI i) u v := by
  intro N
  induction N with
  | zero => intro i e u v h2 h3; omega
  | succ N ih =>
    intro i e u v h2 h3 O P
    obtain ⟨b0, b1, b2, b3, c1, c2, c3, c4, c5, c6, c7, c8, c9, c10, c11, c12⟩ := u
    obtain ⟨d0, d1, d2, d3, g1, g2, g3, g4, g5, g6, g7, g8, g9, g10, g11, g12⟩ := v
    refine ⟨fun z => ?_, fun z => ?_⟩
    · refine gc_same (u := (b0, b1, b2, b3, c1, c2, c3, c4, c5, c6, c7, c8, c9, c10, c11, c12)) (v := (d0, d1, d2, d3, g1, g2, g3, g4, g5, g6, g7, g8, g9, g10, g11, g12)) O P (fun u => ?_)
      obtain ⟨b0, b1, b2, b3, c1, c2, c3, c4, c5, c6, c7, c8, c9, c10, c11, c12, d0, d1, d2, d3, g1, g2, g3, g4, g5, g6, g7, g8, g9, g10, g11, g12⟩ := u
      rfl
    · have hi : i + 5 ≤ L := by
        rw [gc_ge hL (by omega)] at z
        omega
      have hJ : ∀ e u v, gc_O e u → gc_O e v → gc_j2 (wL_law_18 (fun r => r = 1) L xs kc ks N) (nI (i + 5)) u v := fun e u v O P => ih (i + 5) e u v (by omega) (by omega) O P
      refine ⟨pk_in i L (by omega), by decide, ?_⟩
      obtain ⟨s, hs, es⟩ := gc_rem6 (xs (nI i).toNatClampNeg)
      refine nm_r es ⟨pk_in (i + 1) L (by omega) (nI_1 i), by decide, ?_⟩
      obtain ⟨κ, hκ, eκ⟩ := gc_rem9 (xs (nI i + 1).toNatClampNeg)
      refine nm_r eκ ?_
      refine pk_eq κ 0 (fun q => ?_) (fun q0 => pk_eq κ 1 (fun q => ?_) (fun q1 => pk_eq κ 5 (fun q => ?_) (fun q5 => ?_) rfl rfl (by omega) (by omega)) rfl rfl (by omega) (by omega)) rfl rfl (by omega) (by omega)
      · exact gc_74 (u := (b0, b1, b2, b3, c1, c2, c3, c4, c5, c6, c7, c8, c9, c10, c11, c12)) (v := (d0, d1, d2, d3, g1, g2, g3, g4, g5, g6, g7, g8, g9, g10, g11, g12)) hL hi O P hs (by omega) (fun h0 _ _ => absurd q h0) hJ
      · exact gc_74 (u := (b0, b1, b2, b3, c1, c2, c3, c4, c5, c6, c7, c8, c9, c10, c11, c12)) (v := (d0, d1, d2, d3, g1, g2, g3, g4, g5, g6, g7, g8, g9, g10, g11, g12)) hL hi O P hs (by omega) (fun _ h1 _ => absurd q h1) hJ
      · exact gc_74 (u := (b0, b1, b2, b3, c1, c2, c3, c4, c5, c6, c7, c8, c9, c10, c11, c12)) (v := (d0, d1, d2, d3, g1, g2, g3, g4, g5, g6, g7, g8, g9, g10, g11, g12)) hL hi O P hs (by omega) (fun _ _ h5 => absurd q h5) hJ
      · exact gc_74 (u := (b0, b1, b2, b3, c1, c2, c3, c4, c5, c6, c7, c8, c9, c10, c11, c12)) (v := (d0, d1, d2, d3, g1, g2, g3, g4, g5, g6, g7, g8, g9, g10, g11, g12)) hL hi O P hs (by omega) (fun _ _ _ => rfl) hJ
def gc_u0 : St1 := (0, 0, 0, 0, (fun _ => 0), (fun _ => 0), (fun _ => 0), (fun _ => 0), (fun _ => 0), (fun _ => 0), (fun _ => 0), (fun _ => 0), (fun _ => 0), (fun _ => 0), (fun _ => 0), (fun _ => 0))
theorem gc_O_0 : gc_O ((fun _ => 0), (fun _ => 0), (fun _ => 0)) gc_u0 :=
  ⟨rfl, fun s _ => ⟨rfl, Nat.zero_le 8, fun h => absurd rfl h, fun h => absurd rfl h⟩, Or.inl rfl⟩
theorem i_vc (xs : Nat → Int32) (L : Nat) (hL : L ≤ 260) : wpL_law (fun r => r = 1) L xs := by
  refine ⟨12, 3624, by omega, by omega, ?_⟩
  refine ⟨by omega, by omega, by omega, by omega, by omega, by omega, by omega, by omega, by omega, by omega, by omega, by omega, by omega, by omega, by omega, by omega, by omega, by omega, by omega, by omega, by omega, by omega, by omega, by omega, ?_⟩
  refine ⟨by omega, by omega, 12, 3624, by omega, by omega, ?_⟩
  refine ⟨by omega, by omega, by omega, by omega, by omega, by omega, by omega, by omega, by omega, by omega, by omega, by omega, by omega, by omega, by omega, by omega, by omega, by omega, by omega, by omega, by omega, by omega, by omega, by omega, ?_⟩
  exact ⟨53, gc_main hL 53 0 _ gc_u0 gc_u0 (by omega) (by omega) gc_O_0 gc_O_0⟩
end
