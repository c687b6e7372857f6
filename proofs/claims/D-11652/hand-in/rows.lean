section
/-! ===== the pure picture: holes as numbers, free rectangles ===== -/
def ap_lf (n : Nat) : Nat := n / 32768
def ap_bt (n : Nat) : Nat := n / 1024 % 32
def ap_wd (n : Nat) : Nat := n / 32 % 32
def ap_hi (n : Nat) : Nat := n % 32
def ap_pk (x y w h : Nat) : Nat := x * 32768 + y * 1024 + w * 32 + h
theorem ap_lf_pk {x y w h : Nat} (hy : y < 32) (hw : w < 32) (hh : h < 32) : ap_lf (ap_pk x y w h) = x := by
  unfold ap_lf ap_pk; omega
theorem ap_bt_pk {x y w h : Nat} (hy : y < 32) (hw : w < 32) (hh : h < 32) : ap_bt (ap_pk x y w h) = y := by
  unfold ap_bt ap_pk; omega
theorem ap_wd_pk {x y w h : Nat} (hw : w < 32) (hh : h < 32) : ap_wd (ap_pk x y w h) = w := by
  unfold ap_wd ap_pk; omega
theorem ap_hi_pk {x y w h : Nat} (hh : h < 32) : ap_hi (ap_pk x y w h) = h := by
  unfold ap_hi ap_pk; omega
/-- every cell of the rectangle is free -/
def ap_fr (F : Nat → Nat → Prop) (x y w h : Nat) : Prop := ∀ i j, x ≤ i → i < x + w → y ≤ j → j < y + h → F i j
/-- a number of a rectangle on the sheet that isn't empty -/
def ap_gd (n : Nat) : Prop := 1 ≤ ap_wd n ∧ 1 ≤ ap_hi n ∧ ap_lf n + ap_wd n ≤ 8 ∧ ap_bt n + ap_hi n ≤ 8
def ap_ho (F : Nat → Nat → Prop) (n : Nat) : Prop := ap_gd n ∧ ap_fr F (ap_lf n) (ap_bt n) (ap_wd n) (ap_hi n)
/-- the number's rectangle holds the given one -/
def ap_cv (n x y w h : Nat) : Prop := ap_lf n ≤ x ∧ ap_bt n ≤ y ∧ x + w ≤ ap_lf n + ap_wd n ∧ y + h ≤ ap_bt n + ap_hi n
/-- the free cells lie on the sheet -/
def ap_on (F : Nat → Nat → Prop) : Prop := ∀ i j, F i j → i < 8 ∧ j < 8
/-- the holes: all free, and every free rectangle lies in one -/
def ap_I (F : Nat → Nat → Prop) (l : List Nat) : Prop := (∀ n, n ∈ l → ap_ho F n) ∧ (∀ x y w h, 1 ≤ w → 1 ≤ h → ap_fr F x y w h → ∃ n, n ∈ l ∧ ap_cv n x y w h)
/-- r is the first place where w x h fits, 64 if there is none -/
def ap_bp (F : Nat → Nat → Prop) (w h r : Nat) : Prop := r ≤ 64 ∧ (r < 64 → ap_fr F (r % 8) (r / 8) w h) ∧ ∀ q, q < r → ¬ ap_fr F (q % 8) (q / 8) w h
theorem ap_gd_lt {n : Nat} (h : ap_gd n) : n < 1048576 := by
  obtain ⟨_, _, h3, _⟩ := h
  have : ap_lf n ≤ 8 := by omega
  unfold ap_lf at this
  omega
theorem ap_bnd {n : Nat} (h : n < 1048576) : ap_lf n < 32 ∧ ap_bt n < 32 ∧ ap_wd n < 32 ∧ ap_hi n < 32 := by
  unfold ap_lf ap_bt ap_wd ap_hi
  omega
theorem ap_all (n : Nat) : n = ap_pk (ap_lf n) (ap_bt n) (ap_wd n) (ap_hi n) := by
  unfold ap_lf ap_bt ap_wd ap_hi ap_pk
  omega
theorem ap_fr_sub {F : Nat → Nat → Prop} {x y w h x' y' w' h' : Nat} (H : ap_fr F x y w h) (h1 : x ≤ x') (h2 : y ≤ y') (h3 : x' + w' ≤ x + w) (h4 : y' + h' ≤ y + h) : ap_fr F x' y' w' h' :=
  fun i j a b c d => H i j (by omega) (by omega) (by omega) (by omega)
theorem ap_fr_on {F : Nat → Nat → Prop} (hF : ap_on F) {x y w h : Nat} (hw : 1 ≤ w) (hh : 1 ≤ h) (H : ap_fr F x y w h) : x + w ≤ 8 ∧ y + h ≤ 8 := by
  have := hF _ _ (H (x + w - 1) (y + h - 1) (by omega) (by omega) (by omega) (by omega))
  omega
theorem ap_bp_ex (F : Nat → Nat → Prop) (w h : Nat) : ∃ r, ap_bp F w h r := by
  by_cases e : ∃ k, k < 64 ∧ ap_fr F (k % 8) (k / 8) w h
  · obtain ⟨k, ⟨h1, h2⟩, h3⟩ := pk_least (fun k => k < 64 ∧ ap_fr F (k % 8) (k / 8) w h) e
    exact ⟨k, by omega, fun _ => h2, fun q hq hf => h3 q hq ⟨by omega, hf⟩⟩
  · exact ⟨64, by omega, fun z => absurd z (by omega), fun q hq hf => e ⟨q, hq, hf⟩⟩
/-- a hole that is large enough is a place -/
theorem ap_ok_fr {F : Nat → Nat → Prop} {n w h : Nat} (H : ap_ho F n) (hw : w ≤ ap_wd n) (hh : h ≤ ap_hi n) : ap_fr F (ap_lf n) (ap_bt n) w h :=
  ap_fr_sub H.2 (Nat.le_refl _) (Nat.le_refl _) (by omega) (by omega)
theorem ap_low_ge {F : Nat → Nat → Prop} {l : List Nat} {w h r n : Nat} (I : ap_I F l) (b : ap_bp F w h r) (hn : n ∈ l) (hw : w ≤ ap_wd n) (hh : h ≤ ap_hi n) : r < 64 ∧ 256 * (r / 8) + r % 8 ≤ 256 * ap_bt n + ap_lf n := by
  have g := (I.1 n hn).1
  obtain ⟨g1, g2, g3, g4⟩ := g
  have f := ap_ok_fr (I.1 n hn) hw hh
  have b3 := b.2.2 (8 * ap_bt n + ap_lf n)
  rw [show (8 * ap_bt n + ap_lf n) % 8 = ap_lf n by omega, show (8 * ap_bt n + ap_lf n) / 8 = ap_bt n by omega] at b3
  have : ¬ 8 * ap_bt n + ap_lf n < r := fun z => b3 z f
  omega
theorem ap_low_ex {F : Nat → Nat → Prop} {l : List Nat} {w h r : Nat} (I : ap_I F l) (b : ap_bp F w h r) (hw : 1 ≤ w) (hh : 1 ≤ h) (hr : r < 64) : ∃ n, n ∈ l ∧ w ≤ ap_wd n ∧ h ≤ ap_hi n ∧ 256 * ap_bt n + ap_lf n = 256 * (r / 8) + r % 8 := by
  obtain ⟨n, hn, c1, c2, c3, c4⟩ := I.2 _ _ w h hw hh (b.2.1 hr)
  have e1 : w ≤ ap_wd n := by omega
  have e2 : h ≤ ap_hi n := by omega
  have k := (ap_low_ge I b hn e1 e2).2
  exact ⟨n, hn, e1, e2, by omega⟩
/-- w x h fits somewhere: a hole is large enough -/
theorem ap_fit_iff {F : Nat → Nat → Prop} {l : List Nat} {w h r : Nat} (I : ap_I F l) (b : ap_bp F w h r) (hw : 1 ≤ w) (hh : 1 ≤ h) : r < 64 ↔ ∃ n, n ∈ l ∧ w ≤ ap_wd n ∧ h ≤ ap_hi n := by
  constructor
  · intro hr
    obtain ⟨n, h1, h2, h3, _⟩ := ap_low_ex I b hw hh hr
    exact ⟨n, h1, h2, h3⟩
  · intro ⟨n, h1, h2, h3⟩
    exact (ap_low_ge I b h1 h2 h3).1
/-! ===== splitting ===== -/
def ap_mt (a b : Nat) : Prop := ap_lf a < ap_lf b + ap_wd b ∧ ap_lf b < ap_lf a + ap_wd a ∧ ap_bt a < ap_bt b + ap_hi b ∧ ap_bt b < ap_bt a + ap_hi a
/-- free but for the rectangle t -/
def ap_cut (F : Nat → Nat → Prop) (t : Nat) : Nat → Nat → Prop := fun i j => F i j ∧ ¬ (ap_lf t ≤ i ∧ i < ap_lf t + ap_wd t ∧ ap_bt t ≤ j ∧ j < ap_bt t + ap_hi t)
theorem ap_cut_keep {F : Nat → Nat → Prop} {n t : Nat} (H : ap_ho F n) (hm : ¬ ap_mt n t) : ap_ho (ap_cut F t) n := by
  refine ⟨H.1, fun i j a b c d => ⟨H.2 i j a b c d, fun z => hm ?_⟩⟩
  unfold ap_mt
  omega
theorem ap_cut_sep {F : Nat → Nat → Prop} {t x y w h : Nat} (ht : ap_gd t) (hw : 1 ≤ w) (hh : 1 ≤ h) (H : ap_fr (ap_cut F t) x y w h) : x + w ≤ ap_lf t ∨ ap_lf t + ap_wd t ≤ x ∨ y + h ≤ ap_bt t ∨ ap_bt t + ap_hi t ≤ y := by
  obtain ⟨t1, t2, _, _⟩ := ht
  rcases Nat.lt_or_ge (ap_lf t) (x + w) with a | a
  · rcases Nat.lt_or_ge x (ap_lf t + ap_wd t) with b | b
    · rcases Nat.lt_or_ge (ap_bt t) (y + h) with c | c
      · rcases Nat.lt_or_ge y (ap_bt t + ap_hi t) with d | d
        · exact absurd (H (max x (ap_lf t)) (max y (ap_bt t)) (by omega) (by omega) (by omega) (by omega)).2 (fun z => z (by omega))
        · exact Or.inr (Or.inr (Or.inr d))
      · exact Or.inr (Or.inr (Or.inl c))
    · exact Or.inr (Or.inl b)
  · exact Or.inl a
/-- the four strips of a hole n round t -/
def ap_s1 (n t : Nat) : List Nat := if ap_lf n < ap_lf t then [ap_pk (ap_lf n) (ap_bt n) (ap_lf t - ap_lf n) (ap_hi n)] else []
def ap_s2 (n t : Nat) : List Nat := if ap_lf t + ap_wd t < ap_lf n + ap_wd n then [ap_pk (ap_lf t + ap_wd t) (ap_bt n) (ap_lf n + ap_wd n - (ap_lf t + ap_wd t)) (ap_hi n)] else []
def ap_s3 (n t : Nat) : List Nat := if ap_bt n < ap_bt t then [ap_pk (ap_lf n) (ap_bt n) (ap_wd n) (ap_bt t - ap_bt n)] else []
def ap_s4 (n t : Nat) : List Nat := if ap_bt t + ap_hi t < ap_bt n + ap_hi n then [ap_pk (ap_lf n) (ap_bt t + ap_hi t) (ap_wd n) (ap_bt n + ap_hi n - (ap_bt t + ap_hi t))] else []
def ap_sp (n t : Nat) : List Nat := ap_s1 n t ++ ap_s2 n t ++ ap_s3 n t ++ ap_s4 n t
theorem ap_sp_len (n t : Nat) : (ap_sp n t).length ≤ 4 := by
  unfold ap_sp ap_s1 ap_s2 ap_s3 ap_s4
  repeat' split
  all_goals simp
theorem ap_mkho {F : Nat → Nat → Prop} {x y w h : Nat} (hw : 1 ≤ w) (hh : 1 ≤ h) (h1 : x + w ≤ 8) (h2 : y + h ≤ 8) (H : ap_fr F x y w h) : ap_ho F (ap_pk x y w h) := by
  have e1 : ap_lf (ap_pk x y w h) = x := ap_lf_pk (by omega) (by omega) (by omega)
  have e2 : ap_bt (ap_pk x y w h) = y := ap_bt_pk (by omega) (by omega) (by omega)
  have e3 : ap_wd (ap_pk x y w h) = w := ap_wd_pk (by omega) (by omega)
  have e4 : ap_hi (ap_pk x y w h) = h := ap_hi_pk (by omega)
  unfold ap_ho ap_gd
  rw [e1, e2, e3, e4]
  exact ⟨⟨hw, hh, h1, h2⟩, H⟩
theorem ap_mkcv {x y w h x' y' w' h' : Nat} (hw : w < 32) (hh : h < 32) (hy : y < 32) (h1 : x ≤ x') (h2 : y ≤ y') (h3 : x' + w' ≤ x + w) (h4 : y' + h' ≤ y + h) : ap_cv (ap_pk x y w h) x' y' w' h' := by
  unfold ap_cv
  rw [ap_lf_pk hy hw hh, ap_bt_pk hy hw hh, ap_wd_pk hw hh, ap_hi_pk hh]
  exact ⟨h1, h2, h3, h4⟩
theorem ap_cut_fr {F : Nat → Nat → Prop} {t x y w h : Nat} (H : ap_fr F x y w h) (s : x + w ≤ ap_lf t ∨ ap_lf t + ap_wd t ≤ x ∨ y + h ≤ ap_bt t ∨ ap_bt t + ap_hi t ≤ y) : ap_fr (ap_cut F t) x y w h :=
  fun i j a b c d => ⟨H i j a b c d, fun z => by omega⟩
theorem ap_sp_ho {F : Nat → Nat → Prop} {n t : Nat} (H : ap_ho F n) (ht : ap_gd t) (hm : ap_mt n t) : ∀ m, m ∈ ap_sp n t → ap_ho (ap_cut F t) m := by
  intro m hm'
  obtain ⟨⟨g1, g2, g3, g4⟩, hf⟩ := H
  obtain ⟨t1, t2, t3, t4⟩ := ht
  obtain ⟨m1, m2, m3, m4⟩ := hm
  unfold ap_sp at hm'
  rw [List.mem_append, List.mem_append, List.mem_append] at hm'
  rcases hm' with ((h | h) | h) | h
  · unfold ap_s1 at h
    split at h
    · rw [List.mem_singleton] at h
      rw [h]
      exact ap_mkho (by omega) (by omega) (by omega) (by omega) (ap_cut_fr (ap_fr_sub hf (by omega) (by omega) (by omega) (by omega)) (by omega))
    · exact absurd h List.not_mem_nil
  · unfold ap_s2 at h
    split at h
    · rw [List.mem_singleton] at h
      rw [h]
      exact ap_mkho (by omega) (by omega) (by omega) (by omega) (ap_cut_fr (ap_fr_sub hf (by omega) (by omega) (by omega) (by omega)) (by omega))
    · exact absurd h List.not_mem_nil
  · unfold ap_s3 at h
    split at h
    · rw [List.mem_singleton] at h
      rw [h]
      exact ap_mkho (by omega) (by omega) (by omega) (by omega) (ap_cut_fr (ap_fr_sub hf (by omega) (by omega) (by omega) (by omega)) (by omega))
    · exact absurd h List.not_mem_nil
  · unfold ap_s4 at h
    split at h
    · rw [List.mem_singleton] at h
      rw [h]
      exact ap_mkho (by omega) (by omega) (by omega) (by omega) (ap_cut_fr (ap_fr_sub hf (by omega) (by omega) (by omega) (by omega)) (by omega))
    · exact absurd h List.not_mem_nil
theorem ap_sp_cv {F : Nat → Nat → Prop} {n t x y w h : Nat} (hn : ap_gd n) (ht : ap_gd t) (hw : 1 ≤ w) (hh : 1 ≤ h) (hc : ap_cv n x y w h) (H : ap_fr (ap_cut F t) x y w h) : ∃ m, m ∈ ap_sp n t ∧ ap_cv m x y w h := by
  have s := ap_cut_sep ht hw hh H
  obtain ⟨g1, g2, g3, g4⟩ := hn
  obtain ⟨t1, t2, t3, t4⟩ := ht
  obtain ⟨c1, c2, c3, c4⟩ := hc
  unfold ap_sp
  rcases s with s | s | s | s
  · refine ⟨ap_pk (ap_lf n) (ap_bt n) (ap_lf t - ap_lf n) (ap_hi n), ?_, ap_mkcv (by omega) (by omega) (by omega) (by omega) (by omega) (by omega) (by omega)⟩
    rw [List.mem_append, List.mem_append, List.mem_append]
    refine Or.inl (Or.inl (Or.inl ?_))
    unfold ap_s1
    rw [if_pos (by omega)]
    exact List.mem_singleton.mpr rfl
  · refine ⟨ap_pk (ap_lf t + ap_wd t) (ap_bt n) (ap_lf n + ap_wd n - (ap_lf t + ap_wd t)) (ap_hi n), ?_, ap_mkcv (by omega) (by omega) (by omega) (by omega) (by omega) (by omega) (by omega)⟩
    rw [List.mem_append, List.mem_append, List.mem_append]
    refine Or.inl (Or.inl (Or.inr ?_))
    unfold ap_s2
    rw [if_pos (by omega)]
    exact List.mem_singleton.mpr rfl
  · refine ⟨ap_pk (ap_lf n) (ap_bt n) (ap_wd n) (ap_bt t - ap_bt n), ?_, ap_mkcv (by omega) (by omega) (by omega) (by omega) (by omega) (by omega) (by omega)⟩
    rw [List.mem_append, List.mem_append, List.mem_append]
    refine Or.inl (Or.inr ?_)
    unfold ap_s3
    rw [if_pos (by omega)]
    exact List.mem_singleton.mpr rfl
  · refine ⟨ap_pk (ap_lf n) (ap_bt t + ap_hi t) (ap_wd n) (ap_bt n + ap_hi n - (ap_bt t + ap_hi t)), ?_, ap_mkcv (by omega) (by omega) (by omega) (by omega) (by omega) (by omega) (by omega)⟩
    rw [List.mem_append, List.mem_append, List.mem_append]
    refine Or.inr ?_
    unfold ap_s4
    rw [if_pos (by omega)]
    exact List.mem_singleton.mpr rfl
end
section
/-! ===== candidates and survivors ===== -/
/-- after the holes p: the candidates q -/
def ap_K (F : Nat → Nat → Prop) (t : Nat) (p q : List Nat) : Prop :=
  q.length ≤ 4 * p.length ∧ (∀ m, m ∈ q → ap_ho (ap_cut F t) m) ∧ (∀ n, n ∈ p → ∀ x y w h, 1 ≤ w → 1 ≤ h → ap_cv n x y w h → ap_fr (ap_cut F t) x y w h → ∃ m, m ∈ q ∧ ap_cv m x y w h)
theorem ap_K_0 (F : Nat → Nat → Prop) (t : Nat) : ap_K F t [] [] :=
  ⟨Nat.le_refl _, fun m hm => absurd hm List.not_mem_nil, fun n hn => absurd hn List.not_mem_nil⟩
theorem ap_K_keep {F : Nat → Nat → Prop} {t n : Nat} {p q : List Nat} (k : ap_K F t p q) (hn : ap_ho F n) (hm : ¬ ap_mt n t) : ap_K F t (p ++ [n]) (q ++ [n]) := by
  obtain ⟨k1, k2, k3⟩ := k
  refine ⟨by rw [List.length_append, List.length_append, List.length_singleton]; omega, fun m h => ?_, fun m h x y w e hw he hc hf => ?_⟩
  · rcases List.mem_append.mp h with h | h
    · exact k2 m h
    · rw [List.mem_singleton.mp h]
      exact ap_cut_keep hn hm
  · rcases List.mem_append.mp h with h | h
    · obtain ⟨m', h1, h2⟩ := k3 m h x y w e hw he hc hf
      exact ⟨m', List.mem_append.mpr (Or.inl h1), h2⟩
    · rw [List.mem_singleton.mp h] at hc
      exact ⟨n, List.mem_append.mpr (Or.inr (List.mem_singleton.mpr rfl)), hc⟩
theorem ap_K_split {F : Nat → Nat → Prop} {t n : Nat} {p q : List Nat} (k : ap_K F t p q) (hn : ap_ho F n) (ht : ap_gd t) (hm : ap_mt n t) : ap_K F t (p ++ [n]) (q ++ ap_sp n t) := by
  obtain ⟨k1, k2, k3⟩ := k
  have hl := ap_sp_len n t
  refine ⟨by rw [List.length_append, List.length_append, List.length_singleton]; omega, fun m h => ?_, fun m h x y w e hw he hc hf => ?_⟩
  · rcases List.mem_append.mp h with h | h
    · exact k2 m h
    · exact ap_sp_ho hn ht hm m h
  · rcases List.mem_append.mp h with h | h
    · obtain ⟨m', h1, h2⟩ := k3 m h x y w e hw he hc hf
      exact ⟨m', List.mem_append.mpr (Or.inl h1), h2⟩
    · rw [List.mem_singleton.mp h] at hc
      obtain ⟨m', h1, h2⟩ := ap_sp_cv hn.1 ht hw he hc hf
      exact ⟨m', List.mem_append.mpr (Or.inr h1), h2⟩
theorem ap_K_I {F : Nat → Nat → Prop} {t : Nat} {p q : List Nat} (I : ap_I F p) (k : ap_K F t p q) : ap_I (ap_cut F t) q := by
  refine ⟨k.2.1, fun x y w h hw hh hf => ?_⟩
  obtain ⟨n, h1, h2⟩ := I.2 x y w h hw hh (fun i j a b c d => (hf i j a b c d).1)
  exact k.2.2 n h1 x y w h hw hh h2 hf
def ap_ins (a b : Nat) : Prop := ap_cv b (ap_lf a) (ap_bt a) (ap_wd a) (ap_hi a)
def ap_cov (q : List Nat) (k : Nat) : Prop := ∃ j, j < q.length ∧ j ≠ k ∧ ap_ins (q.getD k 0) (q.getD j 0) ∧ (q.getD j 0 ≠ q.getD k 0 ∨ j < k)
theorem ap_getD {q : List Nat} {k : Nat} (h : k < q.length) : q.getD k 0 = q[k] := by
  rw [List.getD_eq_getElem?_getD, List.getElem?_eq_getElem h, Option.getD_some]
theorem ap_getD_mem {q : List Nat} {k : Nat} (h : k < q.length) : q.getD k 0 ∈ q := by
  rw [ap_getD h]
  exact List.getElem_mem h
theorem ap_mem_getD {q : List Nat} {n : Nat} (h : n ∈ q) : ∃ k, k < q.length ∧ q.getD k 0 = n := by
  obtain ⟨k, hk, e⟩ := List.mem_iff_getElem.mp h
  exact ⟨k, hk, by rw [ap_getD hk]; exact e⟩
theorem ap_ins_trans {a b c : Nat} (h : ap_ins a b) (h' : ap_ins b c) : ap_ins a c := by
  unfold ap_ins ap_cv at *
  omega
theorem ap_ins_cv {a b x y w h : Nat} (i : ap_ins a b) (c : ap_cv a x y w h) : ap_cv b x y w h := by
  unfold ap_ins at i
  unfold ap_cv at *
  omega
theorem ap_ins_lt {a b : Nat} (h : ap_ins a b) (hne : b ≠ a) : ap_wd a + ap_hi a < ap_wd b + ap_hi b := by
  rcases Nat.lt_or_ge (ap_wd a + ap_hi a) (ap_wd b + ap_hi b) with z | z
  · exact z
  · refine absurd ?_ hne
    unfold ap_ins ap_cv at h
    rw [ap_all a, ap_all b, show ap_lf b = ap_lf a by omega, show ap_bt b = ap_bt a by omega, show ap_wd b = ap_wd a by omega, show ap_hi b = ap_hi a by omega]
theorem ap_surv {q : List Nat} (hq : q.length ≤ 1024) (g : ∀ m, m ∈ q → ap_gd m) : ∀ s k, k < q.length → (64 - (ap_wd (q.getD k 0) + ap_hi (q.getD k 0))) * 1024 + k < s → ∃ j, j < q.length ∧ ¬ ap_cov q j ∧ ap_ins (q.getD k 0) (q.getD j 0) := by
  intro s
  induction s with
  | zero => intro k _ h; exact absurd h (by omega)
  | succ s ih =>
    intro k hk h
    by_cases c : ap_cov q k
    · obtain ⟨j, j1, j2, j3, j4⟩ := c
      have g1 := g _ (ap_getD_mem j1)
      have g2 := g _ (ap_getD_mem hk)
      have hlt : (64 - (ap_wd (q.getD j 0) + ap_hi (q.getD j 0))) * 1024 + j < s := by
        obtain ⟨a1, a2, a3, a4⟩ := g1
        obtain ⟨b1, b2, b3, b4⟩ := g2
        by_cases e : q.getD j 0 = q.getD k 0
        · rw [e]
          rcases j4 with z | z
          · exact absurd e z
          · omega
        · have := ap_ins_lt j3 e
          omega
      obtain ⟨i, i1, i2, i3⟩ := ih j j1 hlt
      exact ⟨i, i1, i2, ap_ins_trans j3 i3⟩
    · exact ⟨k, hk, c, by unfold ap_ins ap_cv; omega⟩
/-- the survivors r of the candidates q after the first k -/
def ap_R (q r : List Nat) (k : Nat) : Prop := r.length ≤ k ∧ (∀ n, n ∈ r → n ∈ q) ∧ (∀ j, j < k → ¬ ap_cov q j → q.getD j 0 ∈ r)
theorem ap_R_0 (q : List Nat) : ap_R q [] 0 := ⟨Nat.le_refl _, fun n h => absurd h List.not_mem_nil, fun j h => absurd h (by omega)⟩
theorem ap_R_put {q r : List Nat} {k : Nat} (h : ap_R q r k) (hk : k < q.length) : ap_R q (r ++ [q.getD k 0]) (k + 1) := by
  obtain ⟨h1, h2, h3⟩ := h
  refine ⟨by rw [List.length_append, List.length_singleton]; omega, fun n hn => ?_, fun j hj hc => ?_⟩
  · rcases List.mem_append.mp hn with z | z
    · exact h2 n z
    · rw [List.mem_singleton.mp z]
      exact ap_getD_mem hk
  · by_cases e : j = k
    · rw [e]
      exact List.mem_append.mpr (Or.inr (List.mem_singleton.mpr rfl))
    · exact List.mem_append.mpr (Or.inl (h3 j (by omega) hc))
theorem ap_R_skip {q r : List Nat} {k : Nat} (h : ap_R q r k) (hc : ap_cov q k) : ap_R q r (k + 1) := by
  obtain ⟨h1, h2, h3⟩ := h
  refine ⟨by omega, h2, fun j hj hn => ?_⟩
  by_cases e : j = k
  · rw [e] at hn
    exact absurd hc hn
  · exact h3 j (by omega) hn
theorem ap_R_I {F : Nat → Nat → Prop} {q r : List Nat} (hq : q.length ≤ 1024) (I : ap_I F q) (h : ap_R q r q.length) : ap_I F r := by
  refine ⟨fun n hn => I.1 n (h.2.1 n hn), fun x y w e hw he hf => ?_⟩
  obtain ⟨n, n1, n2⟩ := I.2 x y w e hw he hf
  obtain ⟨k, k1, k2⟩ := ap_mem_getD n1
  obtain ⟨j, j1, j2, j3⟩ := ap_surv hq (fun m hm => (I.1 m hm).1) _ k k1 (Nat.lt_succ_self _)
  rw [k2] at j3
  exact ⟨_, h.2.2 j j1 j2, ap_ins_cv j3 n2⟩
/-! ===== the tallest hole of a width ===== -/
def ap_ms (w m n : Nat) : Nat := if w ≤ ap_wd n ∧ m < ap_hi n then ap_hi n else m
def ap_mx (l : List Nat) (w : Nat) : Nat := l.foldl (ap_ms w) 0
theorem ap_mx_g (w h : Nat) (l : List Nat) : ∀ m, h ≤ l.foldl (ap_ms w) m ↔ h ≤ m ∨ ∃ n, n ∈ l ∧ w ≤ ap_wd n ∧ h ≤ ap_hi n := by
  induction l with
  | nil =>
    intro m
    constructor
    · exact fun z => Or.inl z
    · intro z
      rcases z with z | ⟨n, hn, _⟩
      · exact z
      · exact absurd hn List.not_mem_nil
  | cons a l ih =>
    intro m
    rw [List.foldl_cons, ih]
    unfold ap_ms
    constructor
    · intro z
      rcases z with z | ⟨n, h1, h2, h3⟩
      · split at z
        · exact Or.inr ⟨a, List.mem_cons_self, by omega, z⟩
        · exact Or.inl z
      · exact Or.inr ⟨n, List.mem_cons_of_mem a h1, h2, h3⟩
    · intro z
      rcases z with z | ⟨n, h1, h2, h3⟩
      · refine Or.inl ?_
        split <;> omega
      · rcases List.mem_cons.mp h1 with e | e
        · rw [e] at h2 h3
          refine Or.inl ?_
          split <;> omega
        · exact Or.inr ⟨n, e, h2, h3⟩
theorem ap_mx_iff {l : List Nat} {w h : Nat} (hh : 1 ≤ h) : h ≤ ap_mx l w ↔ ∃ n, n ∈ l ∧ w ≤ ap_wd n ∧ h ≤ ap_hi n := by
  unfold ap_mx
  rw [ap_mx_g]
  constructor
  · intro z
    rcases z with z | z
    · exact absurd z (by omega)
    · exact z
  · exact fun z => Or.inr z
theorem ap_mx_le {F : Nat → Nat → Prop} {l : List Nat} (I : ap_I F l) (w : Nat) : ap_mx l w ≤ 8 := by
  rcases Nat.lt_or_ge 8 (ap_mx l w) with z | z
  · obtain ⟨n, h1, h2, h3⟩ := (ap_mx_iff (by omega)).mp z
    have g := (I.1 n h1).1
    unfold ap_gd at g
    omega
  · exact z
theorem ap_mx_big {F : Nat → Nat → Prop} {l : List Nat} (I : ap_I F l) {w : Nat} (hw : 8 < w) : ap_mx l w = 0 := by
  rcases Nat.eq_zero_or_pos (ap_mx l w) with z | z
  · exact z
  · obtain ⟨n, h1, h2, h3⟩ := (ap_mx_iff (l := l) (w := w) (h := 1) (by omega)).mp z
    have g := (I.1 n h1).1
    unfold ap_gd at g
    omega
theorem ap_mx_fit {F : Nat → Nat → Prop} {l : List Nat} {w h r : Nat} (I : ap_I F l) (b : ap_bp F w h r) (hw : 1 ≤ w) (hh : 1 ≤ h) : r < 64 ↔ h ≤ ap_mx l w := by
  rw [ap_fit_iff I b hw hh, ap_mx_iff hh]
theorem ap_take_s {l : List Nat} {i : Nat} (h : i < l.length) : l.take (i + 1) = l.take i ++ [l.getD i 0] := by
  rw [ap_getD h, List.take_append_getElem h]
end
section
/-! ===== Int64 by its bits (the wb_ rows: out of the kit's BITS text) ===== -/
theorem wb_tb (n : Nat) : (lN n).toBitVec = BitVec.ofNat 64 n := rfl
theorem wb_c : ∀ k, k < 64 → ((nI k).toInt64 &&& 63) = lN k := by decide +kernel
theorem wb_sm : ∀ k, k < 64 → (BitVec.ofNat 64 k).smod 64 = BitVec.ofNat 64 k := by decide +kernel
def ap_b (t : Int64) (i : Nat) : Bool := t.toBitVec.getLsbD i
theorem ap_b_or (x y : Int64) (i : Nat) : ap_b (x ||| y) i = (ap_b x i || ap_b y i) := by
  unfold ap_b; rw [Int64.toBitVec_or, BitVec.getLsbD_or]
theorem ap_b_0 (i : Nat) : ap_b 0 i = false := BitVec.getLsbD_zero
theorem ap_b_and0 (x y : Int64) : (x &&& y) = 0 ↔ ∀ i, i < 64 → ap_b y i = true → ap_b x i = false := by
  rw [← Int64.toBitVec_inj, Int64.toBitVec_and]
  show x.toBitVec &&& y.toBitVec = 0#64 ↔ _
  constructor
  · intro h i _ hy
    have t := congrArg (fun z => z.getLsbD i) h
    simp only [BitVec.getLsbD_and, BitVec.getLsbD_zero] at t
    unfold ap_b at hy ⊢
    rw [hy, Bool.and_true] at t
    exact t
  · intro h
    apply BitVec.eq_of_getLsbD_eq
    intro i hi
    rw [BitVec.getLsbD_and, BitVec.getLsbD_zero]
    have hh := h i hi
    unfold ap_b at hh
    cases e : y.toBitVec.getLsbD i with
    | false => rw [Bool.and_false]
    | true => rw [hh e, Bool.false_and]
theorem ap_b_shl {k i : Nat} (x : Int64) (hk : k < 64) (hi : i < 64) : ap_b (x <<< ((nI k).toInt64 &&& 63)) i = (decide (k ≤ i) && ap_b x (i - k)) := by
  unfold ap_b
  rw [wb_c k hk, Int64.toBitVec_shiftLeft, wb_tb, wb_sm k hk, BitVec.shiftLeft_eq', BitVec.toNat_ofNat, Nat.mod_eq_of_lt (show k < 2 ^ 64 by omega), BitVec.getLsbD_shiftLeft]
  rcases Nat.lt_or_ge i k with h | h
  · simp [h, Nat.not_le.mpr h]
  · simp [hi, h, Nat.not_lt.mpr h]
theorem ap_b_one (y : Int64) : (y &&& 1) = 1 ↔ ap_b y 0 = true := by
  rw [← Int64.toBitVec_inj, Int64.toBitVec_and]
  show y.toBitVec &&& 1#64 = 1#64 ↔ y.toBitVec.getLsbD 0 = true
  constructor
  · intro h
    have t := congrArg (fun x => x.getLsbD 0) h
    simpa using t
  · intro h
    apply BitVec.eq_of_getLsbD_eq
    intro i hi
    cases i with
    | zero => simp [h]
    | succ i => simp
theorem ap_b_shr {k : Nat} (x : Int64) (hk : k < 64) : ((x >>> ((nI k).toInt64 &&& 63)) &&& 1) = 1 ↔ ap_b x k = true := by
  rw [ap_b_one]
  unfold ap_b
  rw [wb_c k hk, Int64.toBitVec_shiftRight]
  show (x.toBitVec.sshiftRight ((lN k).toBitVec.smod 64).toNat).getLsbD 0 = true ↔ _
  rw [wb_tb, wb_sm k hk, BitVec.toNat_ofNat, Nat.mod_eq_of_lt (show k < 2 ^ 64 by omega), BitVec.getLsbD_sshiftRight]
  simp [hk]
/-! ===== the law's box ===== -/
def ap_bx (p w h i : Nat) : Prop := p % 8 ≤ i % 8 ∧ i % 8 < p % 8 + w ∧ p / 8 ≤ i / 8 ∧ i / 8 < p / 8 + h
theorem ap_row : ∀ w, w < 9 → ((1 : Int64) <<< ((nI w).toInt64 &&& 63)) - 1 = lN (2 ^ w - 1) := by decide +kernel
theorem ap_row_b {a w j : Nat} (hw : w ≤ 8) (ha : a < 8) (hj : j < 64) : ap_b ((((1 : Int64) <<< ((nI w).toInt64 &&& 63)) - 1) <<< ((nI a).toInt64 &&& 63)) j = true ↔ a ≤ j ∧ j < a + w := by
  rw [ap_b_shl _ (by omega) hj, ap_row w (by omega)]
  unfold ap_b
  rw [wb_tb, BitVec.getLsbD_ofNat, Nat.testBit_two_pow_sub_one, Bool.and_eq_true, Bool.and_eq_true, decide_eq_true_iff, decide_eq_true_iff, decide_eq_true_iff]
  omega
theorem ap_sh {p i : Nat} (hp : p < 64) (hi : i < 8) : 8 * ((nI p >>> ((3 : Int32) &&& 31)) + nI i) = nI (8 * (p / 8 + i)) := by
  rw [pk_shrN (by omega) _ 3 (by decide), nI_add]
  exact pk_mul 8 _
theorem ap_a7 {p : Nat} (hp : p < 2 ^ 31) : nI p &&& 7 = nI (p % 8) := pk_andN (m := 7) (by omega) 3 (by decide)
theorem ap_r3 {p : Nat} (hp : p < 2 ^ 31) : nI p >>> ((3 : Int32) &&& 31) = nI (p / 8) := pk_shrN hp _ 3 (by decide)
theorem ap_box {post : Int64 → Prop} {p w h : Nat} (hp : p < 64) (hw : p % 8 + w ≤ 8) (hh : p / 8 + h ≤ 8) (H : ∀ B, (∀ i, i < 64 → (ap_b B i = true ↔ ap_bx p w h i)) → post B) : wpL_box post () (nI p) (nI w) (nI h) := by
  unfold wpL_box
  intro x3 e3
  have hx3 : ∀ j, j < 64 → (ap_b x3 j = true ↔ p % 8 ≤ j ∧ j < p % 8 + w) := by
    intro j hj
    rw [e3, ap_a7 (by omega)]
    exact ap_row_b (by omega) (by omega) hj
  refine pk_loop (fun n i s => wL_box_17 post (nI p) (nI h) x3 n s (nI i)) (fun i s => ∀ j, j < 64 → (ap_b s j = true ↔ ap_bx p w (min i h) j)) 8 0 0 (by omega) ?_ ?_ ?_
  · intro j hj
    rw [ap_b_0]
    unfold ap_bx
    constructor
    · intro z; exact absurd z (by decide)
    · intro z; exact absurd z (by omega)
  · intro n s hI
    refine pk_le 8 8 (fun _ => H s ?_) (fun z => absurd z (by omega))
    intro j hj
    have := hI j hj
    rw [show min 8 h = h by omega] at this
    exact this
  · intro n i s hi hI hw'
    refine pk_le 8 i (fun z => absurd z (by omega)) (fun _ => ?_)
    refine pk_le h i (fun z => nm_r (nI_1 i) (hw' s ?_)) (fun z => nm_e (nm_r (nI_1 i) (hw' _ ?_)))
    · intro j hj
      have := hI j hj
      rw [show min i h = min (i + 1) h by omega] at this
      exact this
    · intro j hj
      have h1 := hI j hj
      have h2 := hx3 (j - 8 * (p / 8 + i)) (by omega)
      rw [ap_sh hp hi, ap_b_or, ap_b_shl _ (by omega) hj, Bool.or_eq_true, Bool.and_eq_true, h1, decide_eq_true_iff, h2]
      unfold ap_bx
      omega
/-! ===== the law's best place ===== -/
def ap_F (t : Int64) : Nat → Nat → Prop := fun i j => i < 8 ∧ j < 8 ∧ ap_b t (8 * j + i) = false
theorem ap_F_on (t : Int64) : ap_on (ap_F t) := fun i j h => ⟨h.1, h.2.1⟩
theorem ap_clr {t B : Int64} {p w h : Nat} (hw : p % 8 + w ≤ 8) (hh : p / 8 + h ≤ 8) (hB : ∀ i, i < 64 → (ap_b B i = true ↔ ap_bx p w h i)) : (t &&& B) = 0 ↔ ap_fr (ap_F t) (p % 8) (p / 8) w h := by
  rw [ap_b_and0]
  constructor
  · intro H i j a b c d
    refine ⟨by omega, by omega, H (8 * j + i) (by omega) ((hB _ (by omega)).mpr ?_)⟩
    unfold ap_bx
    omega
  · intro H i hi hb
    obtain ⟨b1, b2, b3, b4⟩ := (hB i hi).mp hb
    have := (H (i % 8) (i / 8) b1 b2 b3 b4).2.2
    rw [show 8 * (i / 8) + i % 8 = i by omega] at this
    exact this
theorem ap_best {post : Int32 → Prop} {t : Int64} {w h r : Nat} (hw : 1 ≤ w) (hw8 : w ≤ 8) (hh : 1 ≤ h) (hh8 : h ≤ 8) (b : ap_bp (ap_F t) w h r) (H1 : r < 64 → post (nI r)) (H0 : ¬ r < 64 → post (-1)) : wpL_best post () t (nI w) (nI h) := by
  unfold wpL_best
  obtain ⟨b1, b2, b3⟩ := b
  refine pk_loop (σ := Unit) (fun n i _ => wL_best_3 post t (nI w) (nI h) n (nI i)) (fun _ _ => True) r 0 () (by omega) trivial ?_ ?_
  · intro n _ _
    refine pk_le 64 r (fun z => H0 (by omega)) (fun z => ?_)
    have f := b2 z
    obtain ⟨f1, f2⟩ := ap_fr_on (ap_F_on t) hw hh f
    refine pk_lt 8 (r % 8 + w) (fun z => absurd z (by omega)) (fun _ => ?_) rfl (by rw [ap_a7 (by omega), nI_add])
    refine pk_lt 8 (r / 8 + h) (fun z => absurd z (by omega)) (fun _ => ?_) rfl (by rw [ap_r3 (by omega), nI_add])
    exact ap_box z f1 f2 (fun B hB => br_t ((ap_clr f1 f2 hB).mpr f) (H1 z))
  · intro n i _ hi _ hw'
    refine pk_le 64 i (fun z => absurd z (by omega)) (fun z => ?_)
    refine pk_lt 8 (i % 8 + w) (fun _ => nm_r (nI_1 i) (hw' () trivial)) (fun f1 => ?_) rfl (by rw [ap_a7 (by omega), nI_add])
    refine pk_lt 8 (i / 8 + h) (fun _ => nm_r (nI_1 i) (hw' () trivial)) (fun f2 => ?_) rfl (by rw [ap_r3 (by omega), nI_add])
    exact ap_box z f1 f2 (fun B hB => br_f (fun e => b3 i hi ((ap_clr f1 f2 hB).mp e)) (nm_r (nI_1 i) (hw' () trivial)))
end
section
/-! ===== the small methods ===== -/
theorem ap_left {post : Int32 → Prop} {u : St2} {n : Nat} (hn : n < 1048576) (H : post (nI (ap_lf n))) : wpX_leftOf post u (nI n) := by
  obtain ⟨c1, c2, c3, c4, c5, a1, a2, a3, a4, a5, a6, a7, a8, a9⟩ := u
  show post (nI n >>> ((15 : Int32) &&& 31))
  rw [pk_shrN (by omega) _ 15 (by decide)]
  exact H
theorem ap_bottom {post : Int32 → Prop} {u : St2} {n : Nat} (hn : n < 1048576) (H : post (nI (ap_bt n))) : wpX_bottomOf post u (nI n) := by
  obtain ⟨c1, c2, c3, c4, c5, a1, a2, a3, a4, a5, a6, a7, a8, a9⟩ := u
  show post ((nI n >>> ((10 : Int32) &&& 31)) &&& 31)
  rw [pk_shrN (by omega) _ 10 (by decide), pk_andN (m := 31) (by omega) 5 (by decide)]
  exact H
theorem ap_wide {post : Int32 → Prop} {u : St2} {n : Nat} (hn : n < 1048576) (H : post (nI (ap_wd n))) : wpX_wideOf post u (nI n) := by
  obtain ⟨c1, c2, c3, c4, c5, a1, a2, a3, a4, a5, a6, a7, a8, a9⟩ := u
  show post ((nI n >>> ((5 : Int32) &&& 31)) &&& 31)
  rw [pk_shrN (by omega) _ 5 (by decide), pk_andN (m := 31) (by omega) 5 (by decide)]
  exact H
theorem ap_high {post : Int32 → Prop} {u : St2} {n : Nat} (hn : n < 1048576) (H : post (nI (ap_hi n))) : wpX_highOf post u (nI n) := by
  obtain ⟨c1, c2, c3, c4, c5, a1, a2, a3, a4, a5, a6, a7, a8, a9⟩ := u
  show post (nI n &&& 31)
  rw [pk_andN (m := 31) (by omega) 5 (by decide)]
  exact H
theorem ap_orN (a b : Nat) : nI a ||| nI b = nI (a ||| b) := by
  apply Int32.toBitVec_inj.1
  show BitVec.ofNat 32 a ||| BitVec.ofNat 32 b = BitVec.ofNat 32 (a ||| b)
  apply BitVec.eq_of_getLsbD_eq
  intro i hi
  simp [hi]
theorem ap_orS {a b k : Nat} (h : b < 2 ^ k) : nI (2 ^ k * a) ||| nI b = nI (2 ^ k * a + b) := by
  rw [ap_orN, Nat.two_pow_add_eq_or_of_lt h]
theorem ap_packV {x y w h : Nat} (hx : x < 32) (hy : y < 32) (hw : w < 32) (hh : h < 32) : ((((nI x <<< ((15 : Int32) &&& 31)) ||| (nI y <<< ((10 : Int32) &&& 31))) ||| (nI w <<< ((5 : Int32) &&& 31))) ||| nI h) = nI (ap_pk x y w h) := by
  rw [pk_shlN _ 15 (by decide) (by omega), pk_shlN _ 10 (by decide) (by omega), pk_shlN _ 5 (by decide) (by omega)]
  rw [show x * 2 ^ 15 = 2 ^ 15 * x by omega, ap_orS (by omega)]
  rw [show 2 ^ 15 * x + y * 2 ^ 10 = 2 ^ 10 * (32 * x + y) by omega, ap_orS (by omega)]
  rw [show 2 ^ 10 * (32 * x + y) + w * 2 ^ 5 = 2 ^ 5 * (32 * (32 * x + y) + w) by omega, ap_orS (by omega)]
  congr 1
  unfold ap_pk
  omega
theorem ap_pack {post : Int32 → Prop} {u : St2} {x y w h : Nat} (hx : x < 32) (hy : y < 32) (hw : w < 32) (hh : h < 32) (H : post (nI (ap_pk x y w h))) : wpX_pack post u (nI x) (nI y) (nI w) (nI h) := by
  obtain ⟨c1, c2, c3, c4, c5, a1, a2, a3, a4, a5, a6, a7, a8, a9⟩ := u
  show post ((((nI x <<< ((15 : Int32) &&& 31)) ||| (nI y <<< ((10 : Int32) &&& 31))) ||| (nI w <<< ((5 : Int32) &&& 31))) ||| nI h)
  rw [ap_packV hx hy hw hh]
  exact H
theorem ap_size {post : Int32 → Prop} {u : St2} {w h : Nat} (w1 : 1 ≤ w) (w2 : w ≤ 16) (h1 : 1 ≤ h) (h2 : h ≤ 16) (H : post 1) : wpX_isSize post u (nI w) (nI h) := by
  obtain ⟨c1, c2, c3, c4, c5, a1, a2, a3, a4, a5, a6, a7, a8, a9⟩ := u
  refine pk_lt w 1 (fun z => absurd z (by omega)) (fun _ => ?_)
  refine pk_lt 16 w (fun z => absurd z (by omega)) (fun _ => ?_)
  refine pk_lt h 1 (fun z => absurd z (by omega)) (fun _ => ?_)
  exact pk_lt 16 h (fun z => absurd z (by omega)) (fun _ => H)
theorem ap_meets {post : Int32 → Prop} {u : St2} {a b : Nat} (ha : a < 1048576) (hb : b < 1048576) (H1 : ap_mt a b → post 1) (H0 : ¬ ap_mt a b → post 0) : wpX_meets post u (nI a) (nI b) := by
  obtain ⟨c1, c2, c3, c4, c5, a1, a2, a3, a4, a5, a6, a7, a8, a9⟩ := u
  obtain ⟨p1, p2, p3, p4⟩ := ap_bnd ha
  obtain ⟨q1, q2, q3, q4⟩ := ap_bnd hb
  unfold wpX_meets
  dsimp only
  refine ap_left ha (ap_left hb (ap_wide hb ?_))
  refine pk_le (ap_lf b + ap_wd b) (ap_lf a) (fun z => H0 (fun m => by unfold ap_mt at m; omega)) (fun z1 => ?_) (nI_add _ _)
  refine ap_left hb (ap_left ha (ap_wide ha ?_))
  refine pk_lt (ap_lf b) (ap_lf a + ap_wd a) (fun z2 => ?_) (fun z => H0 (fun m => by unfold ap_mt at m; omega)) rfl (nI_add _ _)
  refine ap_bottom ha (ap_bottom hb (ap_high hb ?_))
  refine pk_le (ap_bt b + ap_hi b) (ap_bt a) (fun z => H0 (fun m => by unfold ap_mt at m; omega)) (fun z3 => ?_) (nI_add _ _)
  refine ap_bottom hb (ap_bottom ha (ap_high ha ?_))
  exact pk_le (ap_bt a + ap_hi a) (ap_bt b) (fun z => H0 (fun m => by unfold ap_mt at m; omega)) (fun z4 => H1 ⟨z1, z2, z3, z4⟩) (nI_add _ _)
theorem ap_inside {post : Int32 → Prop} {u : St2} {a b : Nat} (ha : a < 1048576) (hb : b < 1048576) (H1 : ap_ins a b → post 1) (H0 : ¬ ap_ins a b → post 0) : wpX_inside post u (nI a) (nI b) := by
  obtain ⟨c1, c2, c3, c4, c5, a1, a2, a3, a4, a5, a6, a7, a8, a9⟩ := u
  obtain ⟨p1, p2, p3, p4⟩ := ap_bnd ha
  obtain ⟨q1, q2, q3, q4⟩ := ap_bnd hb
  unfold wpX_inside
  dsimp only
  refine ap_left ha (ap_left hb ?_)
  refine pk_lt (ap_lf a) (ap_lf b) (fun z => H0 (fun m => by unfold ap_ins ap_cv at m; omega)) (fun z1 => ?_)
  refine ap_bottom ha (ap_bottom hb ?_)
  refine pk_le (ap_bt b) (ap_bt a) (fun z2 => ?_) (fun z => H0 (fun m => by unfold ap_ins ap_cv at m; omega))
  refine ap_left ha (ap_wide ha (ap_left hb (ap_wide hb ?_)))
  refine pk_le (ap_lf a + ap_wd a) (ap_lf b + ap_wd b) (fun z3 => ?_) (fun z => H0 (fun m => by unfold ap_ins ap_cv at m; omega)) (nI_add _ _) (nI_add _ _)
  refine ap_bottom ha (ap_high ha (ap_bottom hb (ap_high hb ?_)))
  exact pk_lt (ap_bt b + ap_hi b) (ap_bt a + ap_hi a) (fun z => H0 (fun m => by unfold ap_ins ap_cv at m; omega)) (fun z4 => H1 ⟨z1, z2, z3, z4⟩) (nI_add _ _) (nI_add _ _)
/-! ===== an array that holds a list of numbers ===== -/
def ap_A (a : Nat → Int32) (l : List Nat) : Prop := ∀ j, j < l.length → a j = nI (l.getD j 0)
theorem ap_A_0 (a : Nat → Int32) : ap_A a [] := fun j h => absurd h (by simp)
theorem ap_getD_l {l m : List Nat} {j : Nat} (h : j < l.length) : (l ++ m).getD j 0 = l.getD j 0 := by
  rw [List.getD_eq_getElem?_getD, List.getD_eq_getElem?_getD, List.getElem?_append_left h]
theorem ap_getD_n (l : List Nat) (n : Nat) : (l ++ [n]).getD l.length 0 = n := by
  rw [List.getD_eq_getElem?_getD, List.getElem?_concat_length, Option.getD_some]
theorem ap_len1 (l : List Nat) (n : Nat) : (l ++ [n]).length = l.length + 1 := by
  rw [List.length_append, List.length_singleton]
theorem ap_A_put {a : Nat → Int32} {l : List Nat} (n : Nat) (h : ap_A a l) : ap_A (upd a l.length (nI n)) (l ++ [n]) := by
  intro j hj
  rw [ap_len1] at hj
  by_cases e : j = l.length
  · rw [e, pk_us, ap_getD_n]
  · rw [pk_un e, ap_getD_l (by omega)]
    exact h j (by omega)
section
variable {c1 c2 c3 c4 c5 : Int32} {a1 a2 a3 a4 a5 a6 a7 a8 a9 : Nat → Int32}
theorem ap_keep {post : St2 → Prop} {q : List Nat} {n : Nat} (hq : q.length < 1024) (hA : ap_A a7 q) (H : ∀ a', ap_A a' (q ++ [n]) → post (c1, c2, c3, c4, nI (q ++ [n]).length, a1, a2, a3, a4, a5, a6, a', a8, a9)) : wpX_keepCandidate post (c1, c2, c3, c4, nI q.length, a1, a2, a3, a4, a5, a6, a7, a8, a9) (nI n) := by
  unfold wpX_keepCandidate
  refine ⟨pk_in q.length 1024 hq, nm_e (nm_r (nI_1 _) ?_)⟩
  have := H _ (ap_A_put n hA)
  rw [ap_len1] at this
  rw [nI_clamp (by omega)]
  exact this
theorem ap_offer {post : St2 → Prop} {q : List Nat} {x y w h : Nat} (hx : x < 32) (hy : y < 32) (hw : w < 32) (hh : h < 32) (hq : q.length < 1024) (hA : ap_A a7 q) (H : ∀ a', ap_A a' (q ++ [ap_pk x y w h]) → post (c1, c2, c3, c4, nI (q ++ [ap_pk x y w h]).length, a1, a2, a3, a4, a5, a6, a', a8, a9)) : wpX_offer post (c1, c2, c3, c4, nI q.length, a1, a2, a3, a4, a5, a6, a7, a8, a9) (nI x) (nI y) (nI w) (nI h) := by
  unfold wpX_offer
  dsimp only
  refine ap_pack hx hy hw hh (ap_keep hq hA ?_)
  exact H
theorem ap_dle {a b : Nat} (ha : a < 2 ^ 30) (hb : b < 2 ^ 30) : nI a - nI b ≤ 0 ↔ a ≤ b := by
  rw [Int32.le_iff_toInt_le, pk_sub_toInt ha hb]
  show (a : Int) - b ≤ 0 ↔ _
  omega
theorem ap_137 {post : St2 → Prop} {q : List Nat} {n t : Nat} {z : Int32} (hn : ap_gd n) (ht : ap_gd t) (hz : z = nI (ap_bt n + ap_hi n) - nI (ap_bt t + ap_hi t)) (hq : q.length < 1024) (hA : ap_A a7 q)
    (H : ∀ a', ap_A a' (q ++ ap_s4 n t) → post (c1, c2, c3, c4, nI (q ++ ap_s4 n t).length, a1, a2, a3, a4, a5, a6, a', a8, a9)) :
    wX_splitOne_137 post (nI (ap_lf n)) (nI (ap_bt n)) (nI (ap_wd n)) (nI (ap_hi n)) z c1 c2 c3 c4 (nI q.length) a1 a2 a3 a4 a5 a6 a7 a8 a9 := by
  obtain ⟨g1, g2, g3, g4⟩ := hn
  obtain ⟨t1, t2, t3, t4⟩ := ht
  unfold wX_splitOne_137
  unfold ap_s4 at H
  by_cases e : ap_bt t + ap_hi t < ap_bt n + ap_hi n
  · rw [if_pos e] at H
    have hz' : z = nI (ap_bt n + ap_hi n - (ap_bt t + ap_hi t)) := by rw [hz, pk_sub (by omega)]
    refine br_f (by rw [hz, ap_dle (by omega) (by omega)]; omega) ?_
    rw [nI_add, hz', pk_sub (by omega), show ap_bt n + ap_hi n - (ap_bt n + ap_hi n - (ap_bt t + ap_hi t)) = ap_bt t + ap_hi t by omega]
    exact ap_offer (by omega) (by omega) (by omega) (by omega) hq hA H
  · rw [if_neg e, List.append_nil] at H
    exact br_t (by rw [hz, ap_dle (by omega) (by omega)]; omega) (H _ hA)
theorem ap_121 {post : St2 → Prop} {q : List Nat} {n t : Nat} {y z : Int32} (hn : ap_gd n) (ht : ap_gd t) (hy : y = nI (ap_bt t) - nI (ap_bt n)) (hz : z = nI (ap_bt n + ap_hi n) - nI (ap_bt t + ap_hi t)) (hq : q.length + 1 < 1024) (hA : ap_A a7 q)
    (H : ∀ a', ap_A a' (q ++ ap_s3 n t ++ ap_s4 n t) → post (c1, c2, c3, c4, nI (q ++ ap_s3 n t ++ ap_s4 n t).length, a1, a2, a3, a4, a5, a6, a', a8, a9)) :
    wX_splitOne_121 post (nI (ap_lf n)) (nI (ap_bt n)) (nI (ap_wd n)) (nI (ap_hi n)) y z c1 c2 c3 c4 (nI q.length) a1 a2 a3 a4 a5 a6 a7 a8 a9 := by
  have gn := hn
  have gt := ht
  obtain ⟨g1, g2, g3, g4⟩ := hn
  obtain ⟨t1, t2, t3, t4⟩ := ht
  unfold wX_splitOne_121
  unfold ap_s3 at H
  by_cases e : ap_bt n < ap_bt t
  · rw [if_pos e] at H
    refine br_f (by rw [hy, ap_dle (by omega) (by omega)]; omega) ?_
    rw [hy, pk_sub (by omega)]
    exact ap_offer (by omega) (by omega) (by omega) (by omega) (by omega) hA (fun a' hA' => ap_137 gn gt hz (by rw [ap_len1]; omega) hA' H)
  · rw [if_neg e, List.append_nil] at H
    exact br_t (by rw [hy, ap_dle (by omega) (by omega)]; omega) (ap_137 gn gt hz (by omega) hA H)
theorem ap_99 {post : St2 → Prop} {q : List Nat} {n t : Nat} {x y z : Int32} (hn : ap_gd n) (ht : ap_gd t) (hx : x = nI (ap_lf n + ap_wd n) - nI (ap_lf t + ap_wd t)) (hy : y = nI (ap_bt t) - nI (ap_bt n)) (hz : z = nI (ap_bt n + ap_hi n) - nI (ap_bt t + ap_hi t)) (hq : q.length + 2 < 1024) (hA : ap_A a7 q)
    (H : ∀ a', ap_A a' (q ++ ap_s2 n t ++ ap_s3 n t ++ ap_s4 n t) → post (c1, c2, c3, c4, nI (q ++ ap_s2 n t ++ ap_s3 n t ++ ap_s4 n t).length, a1, a2, a3, a4, a5, a6, a', a8, a9)) :
    wX_splitOne_99 post (nI (ap_lf n)) (nI (ap_bt n)) (nI (ap_wd n)) (nI (ap_hi n)) x y z c1 c2 c3 c4 (nI q.length) a1 a2 a3 a4 a5 a6 a7 a8 a9 := by
  have gn := hn
  have gt := ht
  obtain ⟨g1, g2, g3, g4⟩ := hn
  obtain ⟨t1, t2, t3, t4⟩ := ht
  unfold wX_splitOne_99
  unfold ap_s2 at H
  by_cases e : ap_lf t + ap_wd t < ap_lf n + ap_wd n
  · rw [if_pos e] at H
    have hx' : x = nI (ap_lf n + ap_wd n - (ap_lf t + ap_wd t)) := by rw [hx, pk_sub (by omega)]
    refine br_f (by rw [hx, ap_dle (by omega) (by omega)]; omega) ?_
    rw [nI_add, hx', pk_sub (by omega), show ap_lf n + ap_wd n - (ap_lf n + ap_wd n - (ap_lf t + ap_wd t)) = ap_lf t + ap_wd t by omega]
    exact ap_offer (by omega) (by omega) (by omega) (by omega) (by omega) hA (fun a' hA' => ap_121 gn gt hy hz (by rw [ap_len1]; omega) hA' H)
  · rw [if_neg e, List.append_nil] at H
    exact br_t (by rw [hx, ap_dle (by omega) (by omega)]; omega) (ap_121 gn gt hy hz (by omega) hA H)
theorem ap_sub2 (a b c d : Nat) : nI a + nI b - nI c - nI d = nI (a + b) - nI (c + d) := by
  rw [← nI_add a b, ← nI_add c d]
  grind
theorem ap_splitOne {post : St2 → Prop} {q : List Nat} {n t : Nat} (hn : ap_gd n) (ht : ap_gd t) (hq : q.length + 3 < 1024) (hA : ap_A a7 q)
    (H : ∀ a', ap_A a' (q ++ ap_sp n t) → post (c1, c2, c3, c4, nI (q ++ ap_sp n t).length, a1, a2, a3, a4, a5, a6, a', a8, a9)) :
    wpX_splitOne post (c1, c2, c3, c4, nI q.length, a1, a2, a3, a4, a5, a6, a7, a8, a9) (nI n) (nI t) := by
  have ln := ap_gd_lt hn
  have lt := ap_gd_lt ht
  have gn := hn
  have gt := ht
  obtain ⟨g1, g2, g3, g4⟩ := hn
  obtain ⟨t1, t2, t3, t4⟩ := ht
  unfold wpX_splitOne
  dsimp only
  refine ap_left ln (ap_bottom ln (ap_wide ln (ap_high ln (ap_left lt (nm_e (ap_left lt (ap_wide lt (nm_r (ap_sub2 _ _ _ _) (ap_bottom lt (nm_e (ap_bottom lt (ap_high lt (nm_r (ap_sub2 _ _ _ _) ?_)))))))))))))
  have H' : ∀ a', ap_A a' (q ++ ap_s1 n t ++ ap_s2 n t ++ ap_s3 n t ++ ap_s4 n t) → post (c1, c2, c3, c4, nI (q ++ ap_s1 n t ++ ap_s2 n t ++ ap_s3 n t ++ ap_s4 n t).length, a1, a2, a3, a4, a5, a6, a', a8, a9) := by
    have e : q ++ ap_s1 n t ++ ap_s2 n t ++ ap_s3 n t ++ ap_s4 n t = q ++ ap_sp n t := by
      unfold ap_sp
      simp only [List.append_assoc]
    rw [e]
    exact H
  unfold ap_s1 at H'
  by_cases e : ap_lf n < ap_lf t
  · rw [if_pos e] at H'
    refine br_f (by rw [ap_dle (by omega) (by omega)]; omega) ?_
    rw [pk_sub (show ap_lf n ≤ ap_lf t by omega)]
    exact ap_offer (by omega) (by omega) (by omega) (by omega) (by omega) hA (fun a' hA' => ap_99 gn gt rfl rfl rfl (by rw [ap_len1]; omega) hA' H')
  · rw [if_neg e, List.append_nil] at H'
    exact br_t (by rw [ap_dle (by omega) (by omega)]; omega) (ap_99 gn gt rfl rfl rfl (by omega) hA H')
end
end
section
/-! ===== isCovered and splitHoles ===== -/
section
variable {c1 c2 c3 c4 c5 : Int32} {a1 a2 a3 a4 a5 a6 a7 a8 a9 : Nat → Int32}
theorem ap_covered {post : Int32 → Prop} {q : List Nat} {k : Nat} (hk : k < q.length) (hq : q.length ≤ 1024) (hA : ap_A a7 q) (hg : ∀ m, m ∈ q → m < 1048576) (H1 : ap_cov q k → post 1) (H0 : ¬ ap_cov q k → post 0) :
    wpX_isCovered post (c1, c2, c3, c4, nI q.length, a1, a2, a3, a4, a5, a6, a7, a8, a9) (nI k) := by
  unfold wpX_isCovered
  refine ⟨pk_in k 1024 (by omega), nm_r (show a7 (nI k).toNatClampNeg = nI (q.getD k 0) by rw [nI_clamp (by omega)]; exact hA k hk) ?_⟩
  refine pk_loop (σ := Unit) (fun n i _ => wX_isCovered_9 post (nI k) (nI (q.getD k 0)) c1 c2 c3 c4 (nI q.length) a1 a2 a3 a4 a5 a6 a7 a8 a9 n (nI i)) (fun i _ => ∀ j, j < i → ¬ (j ≠ k ∧ ap_ins (q.getD k 0) (q.getD j 0) ∧ (q.getD j 0 ≠ q.getD k 0 ∨ j < k))) q.length 0 () (by omega) (fun j hj => absurd hj (by omega)) ?_ ?_
  · intro n _ hI
    refine pk_le q.length q.length (fun _ => H0 ?_) (fun z => absurd z (by omega))
    intro ⟨j, j1, j2⟩
    exact hI j j1 j2
  · intro n i _ hi hI hw
    have gi := hg _ (ap_getD_mem hi)
    have gk := hg _ (ap_getD_mem hk)
    have nx : ¬ (i ≠ k ∧ ap_ins (q.getD k 0) (q.getD i 0) ∧ (q.getD i 0 ≠ q.getD k 0 ∨ i < k)) → wX_isCovered_9 post (nI k) (nI (q.getD k 0)) c1 c2 c3 c4 (nI q.length) a1 a2 a3 a4 a5 a6 a7 a8 a9 n (nI (i + 1)) := by
      intro hno
      refine hw () (fun j hj => ?_)
      by_cases e : j = i
      · rw [e]; exact hno
      · exact hI j (by omega)
    refine pk_le q.length i (fun z => absurd z (by omega)) (fun _ => ?_)
    refine pk_eq i k (fun e => nm_r (nI_1 i) (nx (fun z => z.1 e))) (fun ne => ⟨pk_in i 1024 (by omega), ?_⟩)
    rw [nI_clamp (by omega), hA i hi]
    refine ap_inside gk gi (fun hin => br_f (by decide) ⟨pk_in i 1024 (by omega), ?_⟩) (fun hin => br_t rfl (nm_r (nI_1 i) (nx (fun z => hin z.2.1))))
    refine pk_eq (q.getD i 0) (q.getD k 0) (fun e => ?_) (fun e => H1 ⟨i, hi, ne, hin, Or.inl e⟩)
    exact pk_le k i (fun z => nm_r (nI_1 i) (nx (fun c => by rcases c.2.2 with c | c; exact c e; omega))) (fun z => H1 ⟨i, hi, ne, hin, Or.inr z⟩)
theorem ap_95 {post : St2 → Prop} {q : List Nat} (hq : q.length ≤ 256) (hA : ap_A a7 q) (hg : ∀ m, m ∈ q → m < 1048576)
    (H : ∀ r a', ap_A a' r → ap_R q r q.length → post (c1, c2, c3, nI r.length, nI q.length, a1, a2, a3, a4, a5, a', a7, a8, a9)) :
    ∃ n, wX_splitHoles_95 post c1 c2 c3 (nI q.length) n 0 0 a1 a2 a3 a4 a5 a6 a7 a8 a9 := by
  refine pk_loop (σ := List Nat × (Nat → Int32)) (fun n i s => wX_splitHoles_95 post c1 c2 c3 (nI q.length) n (nI i) (nI s.1.length) a1 a2 a3 a4 a5 s.2 a7 a8 a9) (fun i s => ap_R q s.1 i ∧ ap_A s.2 s.1) q.length 0 ([], a6) (by omega) ⟨ap_R_0 q, ap_A_0 _⟩ ?_ ?_
  · intro n s hI
    exact pk_le q.length q.length (fun _ => H s.1 s.2 hI.2 hI.1) (fun z => absurd z (by omega))
  · intro n i s hi hI hw
    obtain ⟨r, b⟩ := s
    obtain ⟨h1, h2⟩ := hI
    have hl : r.length ≤ i := h1.1
    refine pk_le q.length i (fun z => absurd z (by omega)) (fun _ => ?_)
    refine ap_covered hi (by omega) hA hg (fun hc => ?_) (fun hc => ?_)
    · exact br_f (by decide) (nm_r (nI_1 i) (hw (r, b) ⟨ap_R_skip h1 hc, h2⟩))
    · refine br_t rfl ⟨pk_in i 1024 (by omega), pk_in r.length 256 (by omega), ?_⟩
      have e : upd b (nI r.length).toNatClampNeg (a7 (nI i).toNatClampNeg) = upd b r.length (nI (q.getD i 0)) := by
        rw [nI_clamp (by omega), nI_clamp (by omega), hA i hi]
      refine nm_r e (nm_r (nI_1 _) (nm_r (nI_1 i) ?_))
      have := hw (r ++ [q.getD i 0], upd b r.length (nI (q.getD i 0))) ⟨ap_R_put h1 hi, ap_A_put _ h2⟩
      dsimp only at this
      rw [ap_len1] at this
      exact this
theorem ap_36 {post : St2 → Prop} {F : Nat → Nat → Prop} {l : List Nat} {t : Nat} (hl : l.length ≤ 64) (I : ap_I F l) (ht : ap_gd t) (hA : ap_A a6 l)
    (H : ∀ r q a' b', r.length ≤ 4 * l.length → ap_A a' r → ap_I (ap_cut F t) r → post (c1, c2, c3, nI r.length, nI q, a1, a2, a3, a4, a5, a', b', a8, a9)) :
    ∃ n, wX_splitHoles_36 post (nI t) n 0 c1 c2 c3 (nI l.length) 0 a1 a2 a3 a4 a5 a6 a7 a8 a9 := by
  refine pk_loop (σ := List Nat × (Nat → Int32)) (fun n i s => wX_splitHoles_36 post (nI t) n (nI i) c1 c2 c3 (nI l.length) (nI s.1.length) a1 a2 a3 a4 a5 a6 s.2 a8 a9) (fun i s => ap_K F t (l.take i) s.1 ∧ ap_A s.2 s.1) l.length 0 ([], a7) (by omega) ⟨ap_K_0 F t, ap_A_0 _⟩ ?_ ?_
  · intro n s hI
    obtain ⟨q, b⟩ := s
    obtain ⟨h1, h2⟩ := hI
    dsimp only at h1 h2
    rw [List.take_length] at h1
    have hlen := h1.1
    have hI := ap_K_I I h1
    refine pk_le l.length l.length (fun _ => ?_) (fun z => absurd z (by omega))
    refine ap_95 (q := q) (by omega) h2 (fun m hm => ap_gd_lt (h1.2.1 m hm).1) (fun r a' hr hR => ?_)
    have := hR.1
    exact H r q.length a' b (by omega) hr (ap_R_I (by omega) hI hR)
  · intro n i s hi hI hw
    obtain ⟨q, b⟩ := s
    obtain ⟨h1, h2⟩ := hI
    dsimp only at h1 h2
    have hlen := h1.1
    rw [List.length_take] at hlen
    have hm := ap_getD_mem hi
    have hn := I.1 _ hm
    have ln := ap_gd_lt hn.1
    have lt := ap_gd_lt ht
    refine pk_le l.length i (fun z => absurd z (by omega)) (fun _ => ⟨pk_in i 256 (by omega), ?_⟩)
    rw [nI_clamp (by omega), hA i hi]
    refine ap_meets ln lt (fun m => br_f (by decide) ⟨pk_in i 256 (by omega), ?_⟩) (fun m => br_t rfl ⟨pk_in i 256 (by omega), ?_⟩)
    · refine ap_splitOne (q := q) hn.1 ht (by omega) h2 (fun b' hb => nm_r (nI_1 i) ?_)
      exact hw (q ++ ap_sp (l.getD i 0) t, b') ⟨by dsimp only; rw [ap_take_s hi]; exact ap_K_split h1 hn ht m, hb⟩
    · refine ap_keep (q := q) (by omega) h2 (fun b' hb => nm_r (nI_1 i) ?_)
      exact hw (q ++ [l.getD i 0], b') ⟨by dsimp only; rw [ap_take_s hi]; exact ap_K_keep h1 hn m, hb⟩
theorem ap_splitHoles {post : St2 → Prop} {F : Nat → Nat → Prop} {l : List Nat} {k x y w h : Nat} (hk : k < 20) (hl : l.length ≤ 64) (I : ap_I F l) (hA : ap_A a6 l) (e1 : a1 k = nI x) (e2 : a2 k = nI y) (e3 : a3 k = nI w) (e4 : a4 k = nI h) (hw : 1 ≤ w) (hh : 1 ≤ h) (hx : x + w ≤ 8) (hy : y + h ≤ 8)
    (H : ∀ r q a' b', r.length ≤ 4 * l.length → ap_A a' r → ap_I (ap_cut F (ap_pk x y w h)) r → post (c1, c2, c3, nI r.length, nI q, a1, a2, a3, a4, a5, a', b', a8, a9)) :
    wpX_splitHoles post (c1, c2, c3, nI l.length, c5, a1, a2, a3, a4, a5, a6, a7, a8, a9) (nI k) := by
  unfold wpX_splitHoles
  refine ⟨pk_in k 20 hk, pk_in k 20 hk, pk_in k 20 hk, pk_in k 20 hk, ?_⟩
  rw [nI_clamp (by omega), e1, e2, e3, e4]
  refine ap_pack (by omega) (by omega) (by omega) (by omega) ?_
  refine ap_36 hl I ?_ hA H
  unfold ap_gd
  rw [ap_lf_pk (by omega) (by omega) (by omega), ap_bt_pk (by omega) (by omega) (by omega), ap_wd_pk (by omega) (by omega), ap_hi_pk (by omega)]
  exact ⟨hw, hh, hx, hy⟩
theorem ap_flip {post : St2 → Prop} {k y h : Nat} (hk : k < 20) (e2 : a2 k = nI y) (e4 : a4 k = nI h) (hy : y + h ≤ 8) (H : ∀ a', post (c1, c2, c3, c4, c5, a1, a2, a3, a4, a', a6, a7, a8, a9)) :
    wpX_flip post (c1, c2, c3, c4, c5, a1, a2, a3, a4, a5, a6, a7, a8, a9) (nI k) := by
  unfold wpX_flip
  refine ⟨pk_in k 20 hk, pk_in k 20 hk, nm_e ⟨pk_in k 20 hk, nm_r (show a2 (nI k).toNatClampNeg = nI y by rw [nI_clamp (by omega)]; exact e2) ?_⟩⟩
  refine pk_loop (σ := Nat → Int32) (fun n i s => wX_flip_25 post (nI k) _ c1 c2 c3 c4 c5 n (nI i) a1 a2 a3 a4 s a6 a7 a8 a9) (fun _ _ => True) (y + h) y a5 (by omega) trivial ?_ ?_
  · intro n s _
    refine ⟨pk_in k 20 hk, pk_in k 20 hk, ?_⟩
    exact pk_le (y + h) (y + h) (fun _ => H s) (fun z => absurd z (by omega)) (by rw [nI_clamp (by omega), e2, e4, nI_add])
  · intro n i s hi _ hw
    refine ⟨pk_in k 20 hk, pk_in k 20 hk, ?_⟩
    exact pk_le (y + h) i (fun z => absurd z (by omega)) (fun _ => ⟨pk_in i 16 (by omega), pk_in i 16 (by omega), nm_e (nm_r (nI_1 i) (hw _ trivial))⟩) (by rw [nI_clamp (by omega), e2, e4, nI_add])
end
end
section
/-! ===== lowest, bestPlace, fitting ===== -/
def ap_L (w h : Nat) (p : List Nat) (s : Int32) : Prop :=
  (s = -3 ∧ ∀ n, n ∈ p → ¬ (w ≤ ap_wd n ∧ h ≤ ap_hi n)) ∨ ∃ v, s = nI v ∧ v < 65536 ∧ (∃ n, n ∈ p ∧ w ≤ ap_wd n ∧ h ≤ ap_hi n ∧ 256 * ap_bt n + ap_lf n = v) ∧ ∀ n, n ∈ p → w ≤ ap_wd n → h ≤ ap_hi n → v ≤ 256 * ap_bt n + ap_lf n
theorem ap_mem1 {p : List Nat} {n m : Nat} (h : m ∈ p ++ [n]) : m ∈ p ∨ m = n := by
  rcases List.mem_append.mp h with z | z
  · exact Or.inl z
  · exact Or.inr (List.mem_singleton.mp z)
theorem ap_meml {p : List Nat} {n m : Nat} (h : m ∈ p) : m ∈ p ++ [n] := List.mem_append.mpr (Or.inl h)
theorem ap_memr (p : List Nat) (n : Nat) : n ∈ p ++ [n] := List.mem_append.mpr (Or.inr (List.mem_singleton.mpr rfl))
theorem ap_L_0 (w h : Nat) : ap_L w h [] (-3) := Or.inl ⟨rfl, fun n hn => absurd hn List.not_mem_nil⟩
theorem ap_L_skip {w h n : Nat} {p : List Nat} {s : Int32} (k : ap_L w h p s) (hn : ¬ (w ≤ ap_wd n ∧ h ≤ ap_hi n)) : ap_L w h (p ++ [n]) s := by
  rcases k with ⟨k1, k2⟩ | ⟨v, k1, k2, ⟨m, m1, m2, m3, m4⟩, k4⟩
  · refine Or.inl ⟨k1, fun m hm => ?_⟩
    rcases ap_mem1 hm with z | z
    · exact k2 m z
    · rw [z]; exact hn
  · refine Or.inr ⟨v, k1, k2, ⟨m, ap_meml m1, m2, m3, m4⟩, fun m' hm h1 h2 => ?_⟩
    rcases ap_mem1 hm with z | z
    · exact k4 m' z h1 h2
    · rw [z] at h1 h2; exact absurd ⟨h1, h2⟩ hn
theorem ap_L_new {w h n : Nat} {p : List Nat} (hn : n < 1048576) (h1 : w ≤ ap_wd n) (h2 : h ≤ ap_hi n) (hp : ∀ m, m ∈ p → w ≤ ap_wd m → h ≤ ap_hi m → 256 * ap_bt n + ap_lf n ≤ 256 * ap_bt m + ap_lf m) : ap_L w h (p ++ [n]) (nI (256 * ap_bt n + ap_lf n)) := by
  have b := ap_bnd hn
  refine Or.inr ⟨_, rfl, by omega, ⟨n, ap_memr p n, h1, h2, rfl⟩, fun m hm k1 k2 => ?_⟩
  rcases ap_mem1 hm with z | z
  · exact hp m z k1 k2
  · rw [z]; exact Nat.le_refl _
theorem ap_L_old {w h n v : Nat} {p : List Nat} (k : ap_L w h p (nI v)) (hv : v < 65536) (hm : ∃ m, m ∈ p ∧ w ≤ ap_wd m ∧ h ≤ ap_hi m ∧ 256 * ap_bt m + ap_lf m = v) (ha : ∀ m, m ∈ p → w ≤ ap_wd m → h ≤ ap_hi m → v ≤ 256 * ap_bt m + ap_lf m) (hn : v ≤ 256 * ap_bt n + ap_lf n) : ap_L w h (p ++ [n]) (nI v) := by
  obtain ⟨m, m1, m2, m3, m4⟩ := hm
  refine Or.inr ⟨v, rfl, hv, ⟨m, ap_meml m1, m2, m3, m4⟩, fun m' hm k1 k2 => ?_⟩
  rcases ap_mem1 hm with z | z
  · exact ha m' z k1 k2
  · rw [z]; exact hn
section
variable {c1 c2 c3 c4 c5 : Int32} {a1 a2 a3 a4 a5 a6 a7 a8 a9 : Nat → Int32}
theorem ap_lowest {post : Int32 → Prop} {F : Nat → Nat → Prop} {l : List Nat} {w h r : Nat} (hl : l.length ≤ 256) (I : ap_I F l) (hA : ap_A a6 l) (hw : 1 ≤ w) (hw8 : w ≤ 8) (hh : 1 ≤ h) (hh8 : h ≤ 8) (b : ap_bp F w h r) (H1 : r < 64 → post (nI (256 * (r / 8) + r % 8))) (H0 : ¬ r < 64 → post (-3)) :
    wpX_lowest post (c1, c2, c3, nI l.length, c5, a1, a2, a3, a4, a5, a6, a7, a8, a9) (nI w) (nI h) := by
  unfold wpX_lowest
  refine pk_loop (σ := Int32) (fun n i s => wX_lowest_6 post (nI w) (nI h) c1 c2 c3 (nI l.length) c5 a1 a2 a3 a4 a5 a6 a7 a8 a9 n s (nI i)) (fun i s => ap_L w h (l.take i) s) l.length 0 (-3) (by omega) (ap_L_0 w h) ?_ ?_
  · intro n s hI
    refine pk_le l.length l.length (fun _ => ?_) (fun z => absurd z (by omega))
    rw [List.take_length] at hI
    rcases hI with ⟨k1, k2⟩ | ⟨v, k1, k2, ⟨m, m1, m2, m3, m4⟩, k4⟩
    · rw [k1]
      refine H0 (fun hr => ?_)
      obtain ⟨m, m1, m2, m3, _⟩ := ap_low_ex I b hw hh hr
      exact k2 m m1 ⟨m2, m3⟩
    · have g := ap_low_ge I b m1 m2 m3
      obtain ⟨m', n1, n2, n3, n4⟩ := ap_low_ex I b hw hh g.1
      have := k4 m' n1 n2 n3
      rw [k1, show v = 256 * (r / 8) + r % 8 by omega]
      exact H1 g.1
  · intro n i s hi hI hw'
    have hm := ap_getD_mem hi
    have ln := ap_gd_lt (I.1 _ hm).1
    have bn := ap_bnd ln
    rw [ap_take_s hi] at hw'
    refine pk_le l.length i (fun z => absurd z (by omega)) (fun _ => ⟨pk_in i 256 (by omega), nm_r (show a6 (nI i).toNatClampNeg = nI (l.getD i 0) by rw [nI_clamp (by omega)]; exact hA i hi) ?_⟩)
    refine ap_wide ln ?_
    refine pk_lt (ap_wd (l.getD i 0)) w (fun z => nm_r (nI_1 i) (hw' s (ap_L_skip hI (fun k => by omega)))) (fun z1 => ?_)
    refine ap_high ln ?_
    refine pk_le h (ap_hi (l.getD i 0)) (fun z2 => ?_) (fun z => nm_r (nI_1 i) (hw' s (ap_L_skip hI (fun k => by omega))))
    refine ap_bottom ln (ap_left ln (nm_r (show 256 * nI (ap_bt (l.getD i 0)) + nI (ap_lf (l.getD i 0)) = nI (256 * ap_bt (l.getD i 0) + ap_lf (l.getD i 0)) from (congrArg (· + nI (ap_lf (l.getD i 0))) (pk_mul 256 _)).trans (nI_add _ _)) ?_))
    rcases hI with ⟨k1, k2⟩ | ⟨v, k1, k2, k3, k4⟩
    · rw [k1]
      exact br_t (by decide) (nm_r (nI_1 i) (hw' _ (ap_L_new ln z1 z2 (fun m m1 m2 m3 => absurd ⟨m2, m3⟩ (k2 m m1)))))
    · rw [k1]
      refine br_f (nI_pos (by omega)) ?_
      refine pk_le v (256 * ap_bt (l.getD i 0) + ap_lf (l.getD i 0)) (fun z => nm_r (nI_1 i) (hw' _ (ap_L_old (Or.inr ⟨v, rfl, k2, k3, k4⟩) k2 k3 k4 z))) (fun z => nm_r (nI_1 i) (hw' _ (ap_L_new ln z1 z2 (fun m m1 m2 m3 => ?_))))
      have := k4 m m1 m2 m3
      omega
theorem ap_bestPlace {post : Int32 → Prop} {F : Nat → Nat → Prop} {l : List Nat} {w h r : Nat} (hl : l.length ≤ 256) (I : ap_I F l) (hA : ap_A a6 l) (hw : 1 ≤ w) (hw8 : w ≤ 8) (hh : 1 ≤ h) (hh8 : h ≤ 8) (b : ap_bp F w h r) (H1 : r < 64 → post (nI (256 * (r / 8) + r % 8))) (H0 : ¬ r < 64 → post (-3)) :
    wpX_bestPlace post (c1, c2, c3, nI l.length, c5, a1, a2, a3, a4, a5, a6, a7, a8, a9) (nI w) (nI h) := by
  unfold wpX_bestPlace
  dsimp only
  refine ap_size hw (by omega) hh (by omega) (br_f (by decide) ?_)
  exact ap_lowest hl I hA hw hw8 hh hh8 b H1 H0
def ap_sm (f : Nat → Nat) : Nat → Nat
  | 0 => 0
  | n + 1 => ap_sm f n + f n
theorem ap_sm_mono (f : Nat → Nat) {i n : Nat} (h : i ≤ n) : ap_sm f i ≤ ap_sm f n := by
  induction n with
  | zero => rw [show i = 0 by omega]; exact Nat.le_refl _
  | succ n ih =>
    by_cases e : i = n + 1
    · rw [e]; exact Nat.le_refl _
    · have := ih (by omega)
      show ap_sm f i ≤ ap_sm f n + f n
      omega
theorem ap_sm_cong {f g : Nat → Nat} {n : Nat} (h : ∀ j, j < n → f j = g j) : ap_sm f n = ap_sm g n := by
  induction n with
  | zero => rfl
  | succ n ih =>
    show ap_sm f n + f n = ap_sm g n + g n
    rw [ih (fun j hj => h j (by omega)), h n (by omega)]
theorem ap_mx_s {l : List Nat} {w i : Nat} (h : i < l.length) : ap_mx (l.take (i + 1)) w = ap_ms w (ap_mx (l.take i) w) (l.getD i 0) := by
  unfold ap_mx
  rw [ap_take_s h, List.foldl_append]
  rfl
theorem ap_f15 {post : Int32 → Prop} {J : Int32 → Int32 → Prop} {F : Nat → Nat → Prop} {l : List Nat} {w k : Nat} (hl : l.length ≤ 256) (I : ap_I F l) (hA : ap_A a6 l) (hw : w ≤ 16) (H : J (nI (k + ap_mx l w)) (nI (w + 1))) :
    ∃ n, wX_fitting_15 post J (nI k) (nI w) c1 c2 c3 (nI l.length) c5 a1 a2 a3 a4 a5 a6 a7 a8 a9 n 0 0 := by
  refine pk_loop (σ := Unit) (fun n i _ => wX_fitting_15 post J (nI k) (nI w) c1 c2 c3 (nI l.length) c5 a1 a2 a3 a4 a5 a6 a7 a8 a9 n (nI (ap_mx (l.take i) w)) (nI i)) (fun i _ => ap_mx (l.take i) w < 32) l.length 0 () (by omega) (by show (0 : Nat) < 32; omega) ?_ ?_
  · intro n _ hI
    refine pk_le l.length l.length (fun _ => ?_) (fun z => absurd z (by omega))
    rw [List.take_length]
    exact nm_r (nI_add _ _) (nm_r (nI_1 w) H)
  · intro n i _ hi hI hw'
    have hm := ap_getD_mem hi
    have ln := ap_gd_lt (I.1 _ hm).1
    have bn := ap_bnd ln
    rw [ap_mx_s hi] at hw'
    refine pk_le l.length i (fun z => absurd z (by omega)) (fun _ => ⟨pk_in i 256 (by omega), ?_⟩)
    rw [nI_clamp (by omega), hA i hi]
    unfold ap_ms at hw'
    refine ap_wide ln ?_
    refine pk_lt (ap_wd (l.getD i 0)) w (fun z => nm_r (nI_1 i) ?_) (fun z1 => ⟨pk_in i 256 (by omega), ap_high ln ?_⟩)
    · rw [if_neg (by omega)] at hw'
      exact hw' () hI
    · refine pk_le (ap_hi (l.getD i 0)) (ap_mx (l.take i) w) (fun z => nm_r (nI_1 i) ?_) (fun z => ⟨pk_in i 256 (by omega), ap_high ln (nm_r (nI_1 i) ?_)⟩)
      · rw [if_neg (by omega)] at hw'
        exact hw' () hI
      · rw [if_pos (by omega)] at hw'
        exact hw' () (by omega)
theorem ap_fitting {post : Int32 → Prop} {F : Nat → Nat → Prop} {l : List Nat} (hl : l.length ≤ 256) (I : ap_I F l) (hA : ap_A a6 l) (H : post (nI (ap_sm (fun j => ap_mx l (j + 1)) 8))) :
    wpX_fitting post (c1, c2, c3, nI l.length, c5, a1, a2, a3, a4, a5, a6, a7, a8, a9) := by
  unfold wpX_fitting
  refine pk_loop (σ := Unit) (fun n i _ => wX_fitting_4 post c1 c2 c3 (nI l.length) c5 a1 a2 a3 a4 a5 a6 a7 a8 a9 n (nI (ap_sm (fun j => ap_mx l (j + 1)) i)) (nI (i + 1))) (fun _ _ => True) 16 0 () (by omega) trivial ?_ ?_
  · intro n _ _
    refine pk_lt 16 17 (fun _ => ?_) (fun z => absurd z (by omega))
    have e : ap_sm (fun j => ap_mx l (j + 1)) 16 = ap_sm (fun j => ap_mx l (j + 1)) 8 := by
      show ap_sm (fun j => ap_mx l (j + 1)) 8 + ap_mx l 9 + ap_mx l 10 + ap_mx l 11 + ap_mx l 12 + ap_mx l 13 + ap_mx l 14 + ap_mx l 15 + ap_mx l 16 = _
      rw [ap_mx_big I (w := 9) (by omega), ap_mx_big I (w := 10) (by omega), ap_mx_big I (w := 11) (by omega), ap_mx_big I (w := 12) (by omega), ap_mx_big I (w := 13) (by omega), ap_mx_big I (w := 14) (by omega), ap_mx_big I (w := 15) (by omega), ap_mx_big I (w := 16) (by omega)]
      rfl
    rw [e]
    exact H
  · intro n i _ hi _ hw'
    refine pk_lt 16 (i + 1) (fun z => absurd z (by omega)) (fun _ => ?_)
    exact ap_f15 hl I hA (by omega) (hw' () trivial)
end
end
section
/-! ===== the rectangles: owner, freeCells, look, clear ===== -/
def ap_O (X Y W E : Nat → Nat) (j x y : Nat) : Prop := X j ≤ x ∧ x < X j + W j ∧ Y j ≤ y ∧ y < Y j + E j
def ap_Q (d : Nat) (X Y W E : Nat → Nat) (a1 a2 a3 a4 : Nat → Int32) : Prop :=
  (∀ j, j < d → a1 j = nI (X j) ∧ a2 j = nI (Y j) ∧ a3 j = nI (W j) ∧ a4 j = nI (E j) ∧ 1 ≤ W j ∧ 1 ≤ E j ∧ X j + W j ≤ 8 ∧ Y j + E j ≤ 8) ∧ (∀ j, d ≤ j → j < 20 → a3 j = 0)
section
variable {c1 c2 c3 c4 c5 : Int32} {a1 a2 a3 a4 a5 a6 a7 a8 a9 : Nat → Int32}
theorem ap_owner {post : Int32 → Prop} {d x y : Nat} {X Y W E : Nat → Nat} (hd : d ≤ 20) (hx : x < 8) (hy : y < 8) (Q : ap_Q d X Y W E a1 a2 a3 a4) (H1 : ∀ j, j < d → ap_O X Y W E j x y → post (nI j)) (H0 : (∀ j, j < d → ¬ ap_O X Y W E j x y) → post (-3)) :
    wpX_owner post (8, 8, c3, c4, c5, a1, a2, a3, a4, a5, a6, a7, a8, a9) (nI x) (nI y) := by
  unfold wpX_owner
  refine br_f (nI_pos (by omega)) (pk_le 8 x (fun z => absurd z (by omega)) (fun _ => br_f (nI_pos (by omega)) (pk_lt y 8 (fun _ => ?_) (fun z => absurd z (by omega)))))
  refine pk_loop (σ := Unit) (fun n i _ => wX_owner_28 post (nI x) (nI y) 8 8 c3 c4 c5 a1 a2 a3 a4 a5 a6 a7 a8 a9 n (nI i)) (fun i _ => ∀ j, j < i → j < d → ¬ ap_O X Y W E j x y) 20 0 () (by omega) (fun j hj => absurd hj (by omega)) ?_ ?_
  · intro n _ hI
    exact pk_le 20 20 (fun _ => H0 (fun j hj => hI j (by omega) hj)) (fun z => absurd z (by omega))
  · intro n i _ hi hI hw
    have nx : (i < d → ¬ ap_O X Y W E i x y) → wX_owner_28 post (nI x) (nI y) 8 8 c3 c4 c5 a1 a2 a3 a4 a5 a6 a7 a8 a9 n (nI (i + 1)) := by
      intro hno
      refine hw () (fun j hj hd => ?_)
      by_cases e : j = i
      · rw [e] at hd ⊢; exact hno hd
      · exact hI j (by omega) hd
    refine pk_le 20 i (fun z => absurd z (by omega)) (fun _ => ⟨pk_in i 20 hi, ?_⟩)
    rw [nI_clamp (by omega)]
    by_cases e : i < d
    · obtain ⟨e1, e2, e3, e4, g1, g2, g3, g4⟩ := Q.1 i e
      rw [e1, e2, e3, e4]
      refine br_f (nI_ne0 (by omega) (by omega)) ⟨pk_in i 20 hi, ?_⟩
      refine pk_lt x (X i) (fun z => nm_r (nI_1 i) (nx (fun _ c => by unfold ap_O at c; omega))) (fun z1 => ⟨pk_in i 20 hi, ?_⟩)
      refine pk_le (Y i) y (fun z2 => ⟨pk_in i 20 hi, pk_in i 20 hi, ?_⟩) (fun z => nm_r (nI_1 i) (nx (fun _ c => by unfold ap_O at c; omega)))
      refine pk_le (X i + W i) x (fun z => nm_r (nI_1 i) (nx (fun _ c => by unfold ap_O at c; omega))) (fun z3 => ⟨pk_in i 20 hi, pk_in i 20 hi, ?_⟩) (nI_add _ _)
      exact pk_le (Y i + E i) y (fun z => nm_r (nI_1 i) (nx (fun _ c => by unfold ap_O at c; omega))) (fun z4 => H1 i e ⟨z1, z3, z2, z4⟩) (nI_add _ _)
    · exact br_t (Q.2 i (by omega) hi) (nm_r (nI_1 i) (nx (fun z => absurd z e)))
theorem ap_free {post : Int32 → Prop} {d s : Nat} {X Y W E : Nat → Nat} (hd : d ≤ 20) (Q : ap_Q d X Y W E a1 a2 a3 a4) (hs : s + ap_sm (fun j => W j * E j) d = 64) (H : post (nI s)) :
    wpX_freeCells post (8, 8, c3, c4, c5, a1, a2, a3, a4, a5, a6, a7, a8, a9) := by
  unfold wpX_freeCells
  refine nm_r (show (8 : Int32) * 8 = nI 64 by decide) ?_
  refine pk_loop (σ := Unit) (fun n i _ => wX_freeCells_12 post 8 8 c3 c4 c5 a1 a2 a3 a4 a5 a6 a7 a8 a9 n (nI (64 - ap_sm (fun j => W j * E j) (min i d))) (nI i)) (fun _ _ => True) 20 0 () (by omega) trivial ?_ ?_
  · intro n _ _
    rw [show min 20 d = d by omega, show 64 - ap_sm (fun j => W j * E j) d = s by omega]
    exact pk_le 20 20 (fun _ => H) (fun z => absurd z (by omega))
  · intro n i _ hi _ hw
    refine pk_le 20 i (fun z => absurd z (by omega)) (fun _ => ⟨pk_in i 20 hi, ?_⟩)
    rw [nI_clamp (by omega)]
    by_cases e : i < d
    · obtain ⟨e1, e2, e3, e4, g1, g2, g3, g4⟩ := Q.1 i e
      rw [e3, e4]
      have m : ap_sm (fun j => W j * E j) (i + 1) ≤ ap_sm (fun j => W j * E j) d := ap_sm_mono _ (by omega)
      have m2 : ap_sm (fun j => W j * E j) (i + 1) = ap_sm (fun j => W j * E j) i + W i * E i := rfl
      have hh := hw () trivial
      rw [show min (i + 1) d = i + 1 by omega] at hh
      rw [show min i d = i by omega]
      refine br_f (nI_ne0 (by omega) (by omega)) ⟨pk_in i 20 hi, pk_in i 20 hi, nm_r ?_ (nm_r (nI_1 i) hh)⟩
      rw [pk_mul, pk_sub (by omega), m2, Nat.sub_add_eq]
    · have hh := hw () trivial
      rw [show min (i + 1) d = min i d by omega] at hh
      exact br_t (Q.2 i (by omega) hi) (nm_r (nI_1 i) hh)
theorem ap_look {post : Int32 → Prop} {d : Nat} {m : Nat} {v : Int32} (hd : d < 20) (h3 : ¬ a3 d = 0) (hv : (m = 0 ∧ v = a1 d) ∨ (m = 1 ∧ v = a2 d) ∨ (m = 2 ∧ v = a3 d) ∨ (m = 3 ∧ v = a4 d)) (H : post v) :
    wpX_look post (c1, c2, c3, c4, c5, a1, a2, a3, a4, a5, a6, a7, a8, a9) (nI d) (nI m) := by
  unfold wpX_look
  dsimp only
  unfold wpX_isUsed
  dsimp only
  refine br_f (nI_pos (by omega)) (pk_le 20 d (fun z => absurd z (by omega)) (fun _ => ⟨pk_in d 20 hd, ?_⟩))
  rw [nI_clamp (by omega)]
  refine br_f h3 (br_f (by decide) ?_)
  rcases hv with ⟨rfl, rfl⟩ | ⟨rfl, rfl⟩ | ⟨rfl, rfl⟩ | ⟨rfl, rfl⟩
  · exact br_t (by decide) ⟨pk_in d 20 hd, H⟩
  · exact br_f (by decide) (br_t (by decide) ⟨pk_in d 20 hd, H⟩)
  · exact br_f (by decide) (br_f (by decide) (br_t (by decide) ⟨pk_in d 20 hd, H⟩))
  · exact br_f (by decide) (br_f (by decide) (br_f (by decide) (br_t (by decide) ⟨pk_in d 20 hd, H⟩)))
theorem ap_clear {post : Int32 → St2 → Prop} (H : ∀ b3 b5, (∀ j, j < 20 → b3 j = 0) → post c3 (8, 8, 0, 1, c5, a1, a2, b3, a4, b5, upd a6 0 (nI (ap_pk 0 0 8 8)), a7, a8, a9)) :
    wpX_clear post (8, 8, c3, c4, c5, a1, a2, a3, a4, a5, a6, a7, a8, a9) := by
  unfold wpX_clear
  refine pk_loop (σ := Nat → Int32) (fun n i s => wX_clear_7 post c3 8 8 c3 c4 c5 n (nI i) a1 a2 s a4 a5 a6 a7 a8 a9) (fun i s => ∀ j, j < i → s j = 0) 20 0 a3 (by omega) (fun j hj => absurd hj (by omega)) ?_ ?_
  · intro n b3 hI
    refine pk_le 20 20 (fun _ => ?_) (fun z => absurd z (by omega))
    refine pk_loop (σ := Nat → Int32) (fun n i s => wX_clear_33 post c3 8 8 0 c4 c5 n (nI i) a1 a2 b3 a4 s a6 a7 a8 a9) (fun _ _ => True) 8 0 a5 (by omega) trivial ?_ ?_
    · intro n b5 _
      refine pk_le 8 8 (fun _ => ?_) (fun z => absurd z (by omega))
      exact ap_pack (x := 0) (y := 0) (w := 8) (h := 8) (by omega) (by omega) (by omega) (by omega) (nm_e (H b3 b5 hI))
    · intro n i b5 hi _ hw
      exact pk_le 8 i (fun z => absurd z (by omega)) (fun _ => ⟨pk_in i 16 (by omega), nm_e (nm_r (nI_1 i) (hw _ trivial))⟩)
  · intro n i s hi hI hw
    refine pk_le 20 i (fun z => absurd z (by omega)) (fun _ => ⟨pk_in i 20 hi, nm_e (nm_r (nI_1 i) (hw _ (fun j hj => ?_)))⟩)
    rw [nI_clamp (by omega)]
    by_cases e : j = i
    · rw [e, pk_us]
    · rw [pk_un e]
      exact hI j (by omega)
end
/-! ===== counting ===== -/
def ap_cf (f : Nat → Bool) : Nat → Nat
  | 0 => 0
  | n + 1 => ap_cf f n + (if f n = true then 0 else 1)
def ap_cb (x y w h : Nat) : Nat → Nat
  | 0 => 0
  | n + 1 => ap_cb x y w h n + (if x ≤ n % 8 ∧ n % 8 < x + w ∧ y ≤ n / 8 ∧ n / 8 < y + h then 1 else 0)
theorem ap_cb_row (x y w h j : Nat) : ∀ i, i ≤ 8 → ap_cb x y w h (8 * j + i) = ap_cb x y w h (8 * j) + (if y ≤ j ∧ j < y + h then min i (x + w) - min i x else 0) := by
  intro i
  induction i with
  | zero =>
    intro _
    split <;> simp
  | succ i ih =>
    intro hi
    have h1 := ih (by omega)
    show ap_cb x y w h (8 * j + i) + (if x ≤ (8 * j + i) % 8 ∧ (8 * j + i) % 8 < x + w ∧ y ≤ (8 * j + i) / 8 ∧ (8 * j + i) / 8 < y + h then 1 else 0) = _
    rw [h1, show (8 * j + i) % 8 = i by omega, show (8 * j + i) / 8 = j by omega]
    by_cases e : y ≤ j ∧ j < y + h
    · rw [if_pos e, if_pos e]
      by_cases e2 : x ≤ i ∧ i < x + w
      · rw [if_pos ⟨e2.1, e2.2, e.1, e.2⟩]
        omega
      · rw [if_neg (fun z => e2 ⟨z.1, z.2.1⟩)]
        omega
    · rw [if_neg e, if_neg e, if_neg (fun z => e z.2.2)]
theorem ap_cb_rows {x w : Nat} (y h : Nat) (hx : x + w ≤ 8) : ∀ j, ap_cb x y w h (8 * j) = w * (min j (y + h) - min j y) := by
  intro j
  induction j with
  | zero => simp; rfl
  | succ j ih =>
    have h1 := ap_cb_row x y w h j 8 (Nat.le_refl 8)
    rw [show 8 * (j + 1) = 8 * j + 8 by omega, h1, ih]
    by_cases e : y ≤ j ∧ j < y + h
    · rw [if_pos e, show min (j + 1) (y + h) - min (j + 1) y = (min j (y + h) - min j y) + 1 by omega, Nat.mul_succ]
      omega
    · rw [if_neg e, show min (j + 1) (y + h) - min (j + 1) y = min j (y + h) - min j y by omega, Nat.add_zero]
theorem ap_cb_64 {x y w h : Nat} (hx : x + w ≤ 8) (hy : y + h ≤ 8) : ap_cb x y w h 64 = w * h := by
  have := ap_cb_rows y h hx 8
  rw [show min 8 (y + h) - min 8 y = h by omega] at this
  exact this
theorem ap_cf_or {t B : Int64} {p w h : Nat} (hB : ∀ i, i < 64 → (ap_b B i = true ↔ ap_bx p w h i)) (hf : (t &&& B) = 0) : ∀ n, n ≤ 64 → ap_cf (ap_b t) n = ap_cf (ap_b (t ||| B)) n + ap_cb (p % 8) (p / 8) w h n := by
  intro n
  induction n with
  | zero => intro _; rfl
  | succ n ih =>
    intro hn
    have h1 := ih (by omega)
    have h2 := hB n (by omega)
    have h3 := (ap_b_and0 t B).mp hf n (by omega)
    show ap_cf (ap_b t) n + (if ap_b t n = true then 0 else 1) = ap_cf (ap_b (t ||| B)) n + (if ap_b (t ||| B) n = true then 0 else 1) + (ap_cb (p % 8) (p / 8) w h n + (if p % 8 ≤ n % 8 ∧ n % 8 < p % 8 + w ∧ p / 8 ≤ n / 8 ∧ n / 8 < p / 8 + h then 1 else 0))
    rw [ap_b_or, h1]
    unfold ap_bx at h2
    cases e : ap_b B n with
    | true =>
      rw [h3 e, if_pos (h2.mp e)]
      simp
      omega
    | false =>
      have hno : ¬ (p % 8 ≤ n % 8 ∧ n % 8 < p % 8 + w ∧ p / 8 ≤ n / 8 ∧ n / 8 < p / 8 + h) := fun z => by
        have := h2.mpr z
        rw [e] at this
        exact absurd this (by decide)
      rw [if_neg hno, Bool.or_false]
      omega
end
section
/-! ===== the picture of a state, and place ===== -/
def ap_P (t : Int64) (l : List Nat) (d : Nat) (a1 a2 a3 a4 a6 : Nat → Int32) : Prop :=
  ap_I (ap_F t) l ∧ ap_A a6 l ∧ ∃ X Y W E, ap_Q d X Y W E a1 a2 a3 a4 ∧ (∀ x y, x < 8 → y < 8 → (ap_b t (8 * y + x) = true ↔ ∃ j, j < d ∧ ap_O X Y W E j x y)) ∧ ap_cf (ap_b t) 64 + ap_sm (fun j => W j * E j) d = 64
theorem ap_F_cut {t B : Int64} {p w h : Nat} (hx : p % 8 + w ≤ 8) (hy : p / 8 + h ≤ 8) (hB : ∀ i, i < 64 → (ap_b B i = true ↔ ap_bx p w h i)) : ap_F (t ||| B) = ap_cut (ap_F t) (ap_pk (p % 8) (p / 8) w h) := by
  funext i j
  unfold ap_F ap_cut
  rw [ap_lf_pk (by omega) (by omega) (by omega), ap_bt_pk (by omega) (by omega) (by omega), ap_wd_pk (by omega) (by omega), ap_hi_pk (by omega)]
  apply propext
  constructor
  · intro ⟨h1, h2, h3⟩
    rw [ap_b_or, Bool.or_eq_false_iff] at h3
    refine ⟨⟨h1, h2, h3.1⟩, fun z => ?_⟩
    have := (hB (8 * j + i) (by omega)).mpr (by unfold ap_bx; omega)
    rw [h3.2] at this
    exact absurd this (by decide)
  · intro ⟨⟨h1, h2, h3⟩, h4⟩
    refine ⟨h1, h2, ?_⟩
    rw [ap_b_or, h3, Bool.false_or]
    cases e : ap_b B (8 * j + i) with
    | false => rfl
    | true =>
      have := (hB (8 * j + i) (by omega)).mp e
      unfold ap_bx at this
      exact absurd (by omega) h4
theorem ap_P_new {t B : Int64} {l r : List Nat} {d p w h : Nat} {a1 a2 a3 a4 a6 b6 : Nat → Int32} (P : ap_P t l d a1 a2 a3 a4 a6) (hp : p < 64) (hw : 1 ≤ w) (hh : 1 ≤ h) (hf : ap_fr (ap_F t) (p % 8) (p / 8) w h) (hB : ∀ i, i < 64 → (ap_b B i = true ↔ ap_bx p w h i)) (hr : ap_A b6 r) (hI : ap_I (ap_cut (ap_F t) (ap_pk (p % 8) (p / 8) w h)) r) :
    ap_P (t ||| B) r (d + 1) (upd a1 d (nI (p % 8))) (upd a2 d (nI (p / 8))) (upd a3 d (nI w)) (upd a4 d (nI h)) b6 := by
  obtain ⟨hx, hy⟩ := ap_fr_on (ap_F_on t) hw hh hf
  obtain ⟨I, A, X, Y, W, E, ⟨Q1, Q2⟩, hO, hS⟩ := P
  refine ⟨by rw [ap_F_cut hx hy hB]; exact hI, hr, fun j => if j = d then p % 8 else X j, fun j => if j = d then p / 8 else Y j, fun j => if j = d then w else W j, fun j => if j = d then h else E j, ⟨fun j hj => ?_, fun j h1 h2 => ?_⟩, fun x y x8 y8 => ?_, ?_⟩
  · dsimp only
    by_cases e : j = d
    · rw [e, pk_us, pk_us, pk_us, pk_us, if_pos rfl, if_pos rfl, if_pos rfl, if_pos rfl]
      exact ⟨rfl, rfl, rfl, rfl, hw, hh, hx, hy⟩
    · rw [pk_un e, pk_un e, pk_un e, pk_un e, if_neg e, if_neg e, if_neg e, if_neg e]
      exact Q1 j (by omega)
  · rw [pk_un (by omega)]
    exact Q2 j (by omega) h2
  · rw [ap_b_or, Bool.or_eq_true, hO x y x8 y8, hB _ (by omega)]
    unfold ap_bx ap_O
    rw [show (8 * y + x) % 8 = x by omega, show (8 * y + x) / 8 = y by omega]
    constructor
    · intro z
      rcases z with ⟨j, j1, j2⟩ | z
      · refine ⟨j, by omega, ?_⟩
        dsimp only
        rw [if_neg (by omega), if_neg (by omega), if_neg (by omega), if_neg (by omega)]
        exact j2
      · refine ⟨d, by omega, ?_⟩
        dsimp only
        rw [if_pos rfl, if_pos rfl, if_pos rfl, if_pos rfl]
        exact z
    · intro ⟨j, j1, j2⟩
      dsimp only at j2
      by_cases e : j = d
      · rw [if_pos e, if_pos e, if_pos e, if_pos e] at j2
        exact Or.inr j2
      · rw [if_neg e, if_neg e, if_neg e, if_neg e] at j2
        exact Or.inl ⟨j, by omega, j2⟩
  · have h1 := ap_cf_or hB ((ap_clr hx hy hB).mpr hf) 64 (Nat.le_refl _)
    rw [ap_cb_64 hx hy] at h1
    have h2 : ap_sm (fun j => (if j = d then w else W j) * (if j = d then h else E j)) (d + 1) = ap_sm (fun j => W j * E j) d + w * h := by
      show ap_sm (fun j => (if j = d then w else W j) * (if j = d then h else E j)) d + (if d = d then w else W d) * (if d = d then h else E d) = _
      rw [if_pos rfl, if_pos rfl, ap_sm_cong (g := fun j => W j * E j)]
      intro j hj
      rw [if_neg (by omega), if_neg (by omega)]
    dsimp only
    rw [h2]
    omega
/-- what lowest answers -/
def ap_lv (r : Nat) : Int32 := if r < 64 then nI (256 * (r / 8) + r % 8) else -3
theorem ap_lv_p {r : Nat} (h : r < 64) : ap_lv r = nI (256 * (r / 8) + r % 8) := if_pos h
theorem ap_lv_n {r : Nat} (h : ¬ r < 64) : ap_lv r = -3 := if_neg h
theorem ap_lv_neg (r : Nat) : ap_lv r < 0 ↔ ¬ r < 64 := by
  by_cases h : r < 64
  · rw [ap_lv_p h]
    exact ⟨fun z => absurd z (nI_pos (by omega)), fun z => absurd h z⟩
  · rw [ap_lv_n h]
    exact ⟨fun _ => h, fun _ => by decide⟩
theorem ap_lv_pos (r : Nat) : 0 ≤ ap_lv r ↔ r < 64 := by
  by_cases h : r < 64
  · rw [ap_lv_p h]
    exact ⟨fun _ => h, fun _ => nI_pos' (by omega)⟩
  · rw [ap_lv_n h]
    exact ⟨fun z => absurd z (by decide), fun z => absurd z h⟩
theorem ap_lv_le {r s : Nat} (hr : r < 64) (hs : s < 64) : ap_lv r ≤ ap_lv s ↔ r ≤ s := by
  rw [ap_lv_p hr, ap_lv_p hs, nI_leI (by omega) (by omega)]
  omega
/-- which way, and where: tn turned or not -/
def ap_ch (m r s w h k tw th tn : Nat) : Prop :=
  (tn = 0 ∧ ¬ (m = 1 ∧ s < 64 ∧ (¬ r < 64 ∨ s < r)) ∧ k = r ∧ tw = w ∧ th = h) ∨ (tn = 1 ∧ (m = 1 ∧ s < 64 ∧ (¬ r < 64 ∨ s < r)) ∧ k = s ∧ tw = h ∧ th = w)
theorem ap_byte : ∀ n, n < 128 → (nI n).toInt8.toInt32 = nI n := by decide +kernel
section
variable {c1 c2 c3 c4 c5 : Int32} {a1 a2 a3 a4 a5 a6 a7 a8 a9 : Nat → Int32}
theorem ap_lowest' {post : Int32 → Prop} {F : Nat → Nat → Prop} {l : List Nat} {w h r : Nat} (hl : l.length ≤ 256) (I : ap_I F l) (hA : ap_A a6 l) (hw : 1 ≤ w) (hw8 : w ≤ 8) (hh : 1 ≤ h) (hh8 : h ≤ 8) (b : ap_bp F w h r) (H : post (ap_lv r)) :
    wpX_lowest post (c1, c2, c3, nI l.length, c5, a1, a2, a3, a4, a5, a6, a7, a8, a9) (nI w) (nI h) :=
  ap_lowest hl I hA hw hw8 hh hh8 b (fun z => by rw [ap_lv_p z] at H; exact H) (fun z => by rw [ap_lv_n z] at H; exact H)
theorem ap_174 {post : Int32 → St2 → Prop} {F : Nat → Nat → Prop} {l : List Nat} {d x y w h : Nat} (hd : d < 20) (hl : l.length ≤ 64) (I : ap_I F l) (hA : ap_A a6 l) (e1 : a1 d = nI x) (e2 : a2 d = nI y) (e3 : a3 d = nI w) (hw : 1 ≤ w) (hh : 1 ≤ h) (hx : x + w ≤ 8) (hy : y + h ≤ 8)
    (H : ∀ r q b5 b6 b7, r.length ≤ 4 * l.length → ap_A b6 r → ap_I (ap_cut F (ap_pk x y w h)) r → post (nI d) (c1, c2, nI (d + 1), nI r.length, nI q, a1, a2, a3, upd a4 d (nI h), b5, b6, b7, a8, a9)) :
    wX_place_174 post (nI d) (nI h) (nI d) c1 c2 (nI d) (nI l.length) c5 a1 a2 a3 a4 a5 a6 a7 a8 a9 := by
  unfold wX_place_174
  refine ⟨pk_in d 20 hd, nm_r (show upd a4 (nI d).toNatClampNeg (nI h).toInt8.toInt32 = upd a4 d (nI h) by rw [nI_clamp (by omega), ap_byte h (by omega)]) (nm_r (nI_1 d) ?_)⟩
  refine ap_flip hd e2 pk_us (by omega) (fun b5 => ?_)
  exact ap_splitHoles hd hl I hA e1 e2 e3 pk_us hw hh hx hy (fun r q b6 b7 h1 h2 h3 => H r q b5 b6 b7 h1 h2 h3)
theorem ap_113 {post : Int32 → St2 → Prop} {F : Nat → Nat → Prop} {l : List Nat} {d k w h tw th tn : Nat} (hd : d < 20) (hl : l.length ≤ 64) (I : ap_I F l) (hA : ap_A a6 l) (hk : k < 64) (hc : (tn = 0 ∧ tw = w ∧ th = h) ∨ (tn = 1 ∧ tw = h ∧ th = w)) (hw : 1 ≤ tw) (hh : 1 ≤ th) (hx : k % 8 + tw ≤ 8) (hy : k / 8 + th ≤ 8)
    (H : ∀ r q b5 b6 b7, r.length ≤ 4 * l.length → ap_A b6 r → ap_I (ap_cut F (ap_pk (k % 8) (k / 8) tw th)) r → post (nI d) (c1, c2, nI (d + 1), nI r.length, nI q, upd a1 d (nI (k % 8)), upd a2 d (nI (k / 8)), upd a3 d (nI tw), upd a4 d (nI th), b5, b6, b7, a8, a9)) :
    wX_place_113 post (nI w) (nI h) (ap_lv k) (nI tn) (nI d) c1 c2 (nI d) (nI l.length) c5 a1 a2 a3 a4 a5 a6 a7 a8 a9 := by
  unfold wX_place_113
  have e1 : upd a1 (nI d).toNatClampNeg (ap_lv k &&& 255).toInt8.toInt32 = upd a1 d (nI (k % 8)) := by
    rw [nI_clamp (by omega), ap_lv_p hk, pk_andN (m := 255) (by omega) 8 (by decide), show (256 * (k / 8) + k % 8) % 2 ^ 8 = k % 8 by omega, ap_byte _ (by omega)]
  have e2 : upd a2 (nI d).toNatClampNeg (ap_lv k >>> ((8 : Int32) &&& 31)).toInt8.toInt32 = upd a2 d (nI (k / 8)) := by
    rw [nI_clamp (by omega), ap_lv_p hk, pk_shrN (by omega) _ 8 (by decide), show (256 * (k / 8) + k % 8) / 2 ^ 8 = k / 8 by omega, ap_byte _ (by omega)]
  refine ⟨pk_in d 20 hd, nm_r e1 ⟨pk_in d 20 hd, nm_r e2 ?_⟩⟩
  rcases hc with ⟨rfl, rfl, rfl⟩ | ⟨rfl, rfl, rfl⟩
  · refine br_t rfl ?_
    unfold wX_place_156
    refine ⟨pk_in d 20 hd, nm_r (show upd a3 (nI d).toNatClampNeg (nI tw).toInt8.toInt32 = upd a3 d (nI tw) by rw [nI_clamp (by omega), ap_byte tw (by omega)]) (br_t rfl ?_)⟩
    exact ap_174 hd hl I hA pk_us pk_us pk_us hw hh hx hy H
  · refine br_f (by decide) ?_
    unfold wX_place_156
    refine ⟨pk_in d 20 hd, nm_r (show upd a3 (nI d).toNatClampNeg (nI tw).toInt8.toInt32 = upd a3 d (nI tw) by rw [nI_clamp (by omega), ap_byte tw (by omega)]) (br_f (by decide) ?_)⟩
    exact ap_174 hd hl I hA pk_us pk_us pk_us hw hh hx hy H
theorem ap_79 {post : Int32 → St2 → Prop} {F : Nat → Nat → Prop} {l : List Nat} {d k w h tw th tn : Nat} {X Y W E : Nat → Nat} (hF : ap_on F) (hd : d < 19) (hl : l.length ≤ 64) (I : ap_I F l) (hA : ap_A a6 l) (Q : ap_Q d X Y W E a1 a2 a3 a4) (hc : (tn = 0 ∧ tw = w ∧ th = h) ∨ (tn = 1 ∧ tw = h ∧ th = w)) (hw : 1 ≤ tw) (hh : 1 ≤ th) (hf : k < 64 → ap_fr F (k % 8) (k / 8) tw th)
    (H0 : ¬ k < 64 → post (-3) (c1, c2, nI d, nI l.length, c5, a1, a2, a3, a4, a5, a6, a7, a8, a9))
    (H1 : k < 64 → ∀ r q b5 b6 b7, r.length ≤ 4 * l.length → ap_A b6 r → ap_I (ap_cut F (ap_pk (k % 8) (k / 8) tw th)) r → post (nI d) (c1, c2, nI (d + 1), nI r.length, nI q, upd a1 d (nI (k % 8)), upd a2 d (nI (k / 8)), upd a3 d (nI tw), upd a4 d (nI th), b5, b6, b7, a8, a9)) :
    wX_place_79 post (nI w) (nI h) (ap_lv k) (nI tn) c1 c2 (nI d) (nI l.length) c5 a1 a2 a3 a4 a5 a6 a7 a8 a9 := by
  unfold wX_place_79
  refine ek_if (ap_lv_pos k) (fun hk => ?_) (fun hk => H0 hk)
  obtain ⟨hx, hy⟩ := ap_fr_on hF hw hh (hf hk)
  refine pk_loop (σ := Unit) (fun n i _ => wX_place_90 post (nI w) (nI h) (ap_lv k) (nI tn) c1 c2 (nI d) (nI l.length) c5 a1 a2 a3 a4 a5 a6 a7 a8 a9 n (nI i)) (fun _ _ => True) d 0 () (by omega) trivial ?_ ?_
  · intro n _ _
    refine pk_le 19 d (fun z => absurd z (by omega)) (fun _ => ⟨pk_in d 20 (by omega), br_t ?_ ?_⟩)
    · rw [nI_clamp (by omega)]
      exact Q.2 d (Nat.le_refl _) (by omega)
    · exact ap_113 (by omega) hl I hA hk hc hw hh hx hy (H1 hk)
  · intro n i _ hi _ hw'
    obtain ⟨q1, q2, q3, q4, q5, q6, q7, q8⟩ := Q.1 i hi
    refine pk_le 19 i (fun z => absurd z (by omega)) (fun _ => ⟨pk_in i 20 (by omega), br_f ?_ (nm_r (nI_1 i) (hw' () trivial))⟩)
    rw [nI_clamp (by omega), q3]
    exact nI_ne0 (by omega) (by omega)
theorem ap_place {post : Int32 → St2 → Prop} {F : Nat → Nat → Prop} {l : List Nat} {d m r s w h k tw th tn : Nat} {X Y W E : Nat → Nat} (hF : ap_on F) (hd : d < 19) (hl : l.length ≤ 64) (I : ap_I F l) (hA : ap_A a6 l) (Q : ap_Q d X Y W E a1 a2 a3 a4) (hw : 1 ≤ w) (hw8 : w ≤ 8) (hh : 1 ≤ h) (hh8 : h ≤ 8) (hm : m ≤ 1) (b1 : ap_bp F w h r) (b2 : ap_bp F h w s) (hc : ap_ch m r s w h k tw th tn)
    (H0 : ¬ k < 64 → post (-3) (c1, c2, nI d, nI l.length, c5, a1, a2, a3, a4, a5, a6, a7, a8, a9))
    (H1 : k < 64 → ∀ r q b5 b6 b7, r.length ≤ 4 * l.length → ap_A b6 r → ap_I (ap_cut F (ap_pk (k % 8) (k / 8) tw th)) r → post (nI d) (c1, c2, nI (d + 1), nI r.length, nI q, upd a1 d (nI (k % 8)), upd a2 d (nI (k / 8)), upd a3 d (nI tw), upd a4 d (nI th), b5, b6, b7, a8, a9)) :
    wpX_place post (c1, c2, nI d, nI l.length, c5, a1, a2, a3, a4, a5, a6, a7, a8, a9) (nI w) (nI h) (nI m) := by
  unfold wpX_place
  dsimp only
  refine ap_size hw (by omega) hh (by omega) (br_f (by decide) (pk_lt d 20 (fun _ => ?_) (fun z => absurd z (by omega))))
  refine ap_lowest' (by omega) I hA hw hw8 hh hh8 b1 ?_
  have no : ¬ (m = 1 ∧ s < 64 ∧ (¬ r < 64 ∨ s < r)) → wX_place_79 post (nI w) (nI h) (ap_lv r) 0 c1 c2 (nI d) (nI l.length) c5 a1 a2 a3 a4 a5 a6 a7 a8 a9 := by
    intro hn
    rcases hc with ⟨rfl, _, rfl, rfl, rfl⟩ | ⟨_, hy, _⟩
    · exact ap_79 (tn := 0) hF hd hl I hA Q (Or.inl ⟨rfl, rfl, rfl⟩) hw hh b1.2.1 H0 H1
    · exact absurd hy hn
  have yes : (m = 1 ∧ s < 64 ∧ (¬ r < 64 ∨ s < r)) → wX_place_79 post (nI w) (nI h) (ap_lv s) 1 c1 c2 (nI d) (nI l.length) c5 a1 a2 a3 a4 a5 a6 a7 a8 a9 := by
    intro hy
    rcases hc with ⟨_, hn, _⟩ | ⟨rfl, _, rfl, rfl, rfl⟩
    · exact absurd hy hn
    · exact ap_79 (tn := 1) hF hd hl I hA Q (Or.inr ⟨rfl, rfl, rfl⟩) hh hw b2.2.1 H0 H1
  refine pk_eq m 0 (fun z => no (fun c => by omega)) (fun z => ?_)
  refine ap_lowest' (by omega) I hA hh hh8 hw hw8 b2 ?_
  refine ek_if (ap_lv_neg s) (fun hs => ?_) (fun hs => ?_)
  · unfold wX_place_67 wX_place_68
    exact br_t rfl (no (fun c => by omega))
  · refine ek_if (ap_lv_neg r) (fun hr => ?_) (fun hr => ?_)
    · unfold wX_place_63 wX_place_68
      exact br_f (by decide) (yes (by omega))
    · refine ek_if (ap_lv_le (by omega) (by omega)) (fun hrs => ?_) (fun hrs => ?_)
      · unfold wX_place_67 wX_place_68
        exact br_t rfl (no (fun c => by omega))
      · unfold wX_place_63 wX_place_68
        exact br_f (by decide) (yes (by omega))
end
end
section
/-! ===== the law behind its four turns ===== -/
theorem ap_sm_upd {f g : Nat → Nat} {i e : Nat} (h1 : ∀ j, j ≠ i → f j = g j) (h2 : f i = g i + e) : ∀ n, i < n → ap_sm f n = ap_sm g n + e := by
  intro n
  induction n with
  | zero => intro h; exact absurd h (by omega)
  | succ n ih =>
    intro h
    show ap_sm f n + f n = ap_sm g n + g n + e
    by_cases z : i = n
    · rw [← z, h2, ap_sm_cong (fun j hj => h1 j (by omega))]
      omega
    · rw [ih (by omega), h1 n (by omega)]
      omega
/-- how many couples the law has found after y rows and i of the next -/
def ap_g (f : Nat → Nat) (y i : Nat) : Nat := ap_sm (fun j => min (if j < i then y + 1 else y) (f j)) 8
theorem ap_g_1 {f : Nat → Nat} {y i : Nat} (hi : i < 8) (h : y + 1 ≤ f i) : ap_g f y (i + 1) = ap_g f y i + 1 := by
  unfold ap_g
  refine ap_sm_upd (i := i) (fun j hj => ?_) ?_ 8 hi
  · by_cases e : j < i
    · rw [if_pos e, if_pos (by omega)]
    · rw [if_neg e, if_neg (by omega)]
  · rw [if_pos (by omega), if_neg (by omega)]
    omega
theorem ap_g_0 {f : Nat → Nat} {y i : Nat} (hi : i < 8) (h : ¬ y + 1 ≤ f i) : ap_g f y (i + 1) = ap_g f y i := by
  unfold ap_g
  refine ap_sm_upd (i := i) (e := 0) (fun j hj => ?_) ?_ 8 hi
  · by_cases e : j < i
    · rw [if_pos e, if_pos (by omega)]
    · rw [if_neg e, if_neg (by omega)]
  · rw [if_pos (by omega), if_neg (by omega)]
    omega
theorem ap_g_8 (f : Nat → Nat) (y : Nat) : ap_g f y 8 = ap_g f (y + 1) 0 := by
  unfold ap_g
  refine ap_sm_cong (fun j hj => ?_)
  rw [if_pos hj, if_neg (by omega)]
theorem ap_g_z (f : Nat → Nat) : ap_g f 0 0 = 0 := by
  unfold ap_g
  rw [ap_sm_cong (g := fun _ => 0)]
  · rfl
  · intro j hj
    rw [if_neg (by omega)]
    omega
theorem ap_g_e {f : Nat → Nat} (h : ∀ j, f j ≤ 8) : ap_g f 8 0 = ap_sm f 8 := by
  unfold ap_g
  refine ap_sm_cong (fun j hj => ?_)
  have := h j
  rw [if_neg (by omega)]
  omega
section
variable {post : Int32 → St0 → Prop} {mc ms kc ks : Nat} {c1 c2 c3 c4 c5 x2 : Int32} {a1 a2 a3 a4 a5 a6 a7 a8 a9 : Nat → Int32} {t : Int64} {l : List Nat} {d : Nat}
theorem ap_473 {z : Int32} (P : ap_P t l d a1 a2 a3 a4 a6) (hl : l.length ≤ 256) (hd : d ≤ 20) (H : post 1 ()) :
    wL_lawOf_473 post mc ms (nI d) (nI (ap_cf (ap_b t) 64)) (nI (ap_sm (fun j => ap_mx l (j + 1)) 8)) z z kc ks 8 8 (nI d) (nI l.length) c5 a1 a2 a3 a4 a5 a6 a7 a8 a9 := by
  obtain ⟨I, A, X, Y, W, E, Q, hO, hS⟩ := P
  unfold wL_lawOf_473
  refine br_t rfl (ap_free hd Q hS (br_t rfl (ap_fitting hl I A (br_t rfl (ap_clear (fun b3 b5 _ => ?_))))))
  exact br_t rfl (br_t rfl H)
theorem ap_381 {J J' : Int32 → Int32 → Int32 → Prop} {x6 x7 : Int32} {y i k r : Nat} (hy : y < 8) (hi : i < 8) (b : ap_bp (ap_F t) (i + 1) (y + 1) r) (H1 : r < 64 → J' x7 (nI (k + 1)) (nI (i + 1))) (H0 : ¬ r < 64 → J' x7 (nI k) (nI (i + 1))) :
    wL_lawOf_381 post mc ms J J' x2 t x6 x7 (nI k) (nI y) (nI i) kc ks c1 c2 c3 c4 c5 a1 a2 a3 a4 a5 a6 a7 a8 a9 := by
  unfold wL_lawOf_381
  rw [nI_1 i, nI_1 y]
  refine ap_best (by omega) (by omega) (by omega) (by omega) b (fun hr => ?_) (fun hr => ?_)
  · exact br_f (nI_pos (by omega)) (nm_r (nI_1 k) (nm_e (H1 hr)))
  · exact br_t (by decide) (nm_e (H0 hr))
theorem ap_348 {J J' : Int32 → Int32 → Int32 → Prop} {x6 : Int32} {y i k f r o : Nat} (P : ap_P t l d a1 a2 a3 a4 a6) (hd : d ≤ 20) (hy : y < 8) (hi : i < 8) (ho : (o = 1 ∧ ap_b t (8 * y + i) = true) ∨ (o = 0 ∧ ap_b t (8 * y + i) = false)) (b : ap_bp (ap_F t) (i + 1) (y + 1) r)
    (H1 : r < 64 → J' (nI (f + (if ap_b t (8 * y + i) = true then 0 else 1))) (nI (k + 1)) (nI (i + 1))) (H0 : ¬ r < 64 → J' (nI (f + (if ap_b t (8 * y + i) = true then 0 else 1))) (nI k) (nI (i + 1))) :
    wL_lawOf_348 post mc ms J J' x2 t x6 (nI f) (nI k) (nI y) (nI i) (nI o) kc ks 8 8 c3 c4 c5 a1 a2 a3 a4 a5 a6 a7 a8 a9 := by
  obtain ⟨I, A, X, Y, W, E, Q, hO, hS⟩ := P
  have hO' := hO i y hi hy
  unfold wL_lawOf_348
  refine ap_owner hd hi hy Q (fun j j1 j2 => ?_) (fun hj => ?_)
  · have hb : ap_b t (8 * y + i) = true := hO'.mpr ⟨j, j1, j2⟩
    rcases ho with ⟨rfl, _⟩ | ⟨_, h2⟩
    · refine br_f (nI_pos (by omega)) ?_
      unfold wL_lawOf_366
      refine br_t rfl (br_f (by decide) ?_)
      rw [if_pos hb, Nat.add_zero] at H1 H0
      exact ap_381 hy hi b H1 H0
    · rw [hb] at h2
      exact absurd h2 (by decide)
  · have hb : ¬ ap_b t (8 * y + i) = true := fun z => by
      obtain ⟨j, j1, j2⟩ := hO'.mp z
      exact hj j j1 j2
    rcases ho with ⟨_, h2⟩ | ⟨rfl, _⟩
    · exact absurd h2 hb
    · refine br_t (by decide) ?_
      unfold wL_lawOf_366
      refine br_t rfl (br_t rfl (nm_r (nI_1 f) ?_))
      rw [if_neg hb] at H1 H0
      exact ap_381 hy hi b H1 H0
theorem ap_318 {J : Int32 → Int32 → Int32 → Prop} {x6 : Int32} {y : Nat} (P : ap_P t l d a1 a2 a3 a4 a6) (hd : d ≤ 20) (hy : y < 8) (H : J (nI (ap_cf (ap_b t) (8 * (y + 1)))) (nI (ap_g (fun j => ap_mx l (j + 1)) (y + 1) 0)) (nI (y + 1))) :
    ∃ n, wL_lawOf_318 post mc ms J x2 t x6 (nI y) kc ks 8 8 c3 c4 c5 a1 a2 a3 a4 a5 a6 a7 a8 a9 n (nI (ap_cf (ap_b t) (8 * y))) (nI (ap_g (fun j => ap_mx l (j + 1)) y 0)) 0 := by
  refine pk_loop (σ := Unit) (fun n i _ => wL_lawOf_318 post mc ms J x2 t x6 (nI y) kc ks 8 8 c3 c4 c5 a1 a2 a3 a4 a5 a6 a7 a8 a9 n (nI (ap_cf (ap_b t) (8 * y + i))) (nI (ap_g (fun j => ap_mx l (j + 1)) y i)) (nI i)) (fun _ _ => True) 8 0 () (by omega) trivial ?_ ?_
  · intro n _ _
    refine pk_le 8 8 (fun _ => nm_r (nI_1 y) ?_) (fun z => absurd z (by omega))
    rw [ap_g_8]
    exact H
  · intro n i _ hi _ hw
    have hh := hw () trivial
    obtain ⟨r, b⟩ := ap_bp_ex (ap_F t) (i + 1) (y + 1)
    have fit := ap_mx_fit P.1 b (by omega) (by omega)
    have e8 : 8 * nI y + nI i = nI (8 * y + i) := (congrArg (· + nI i) (pk_mul 8 y)).trans (nI_add _ _)
    have G1 : r < 64 → wL_lawOf_318 post mc ms J x2 t x6 (nI y) kc ks 8 8 c3 c4 c5 a1 a2 a3 a4 a5 a6 a7 a8 a9 n (nI (ap_cf (ap_b t) (8 * y + i) + (if ap_b t (8 * y + i) = true then 0 else 1))) (nI (ap_g (fun j => ap_mx l (j + 1)) y i + 1)) (nI (i + 1)) := by
      intro hr
      rw [ap_g_1 hi (fit.mp hr)] at hh
      exact hh
    have G0 : ¬ r < 64 → wL_lawOf_318 post mc ms J x2 t x6 (nI y) kc ks 8 8 c3 c4 c5 a1 a2 a3 a4 a5 a6 a7 a8 a9 n (nI (ap_cf (ap_b t) (8 * y + i) + (if ap_b t (8 * y + i) = true then 0 else 1))) (nI (ap_g (fun j => ap_mx l (j + 1)) y i)) (nI (i + 1)) := by
      intro hr
      rw [ap_g_0 hi (fun z => hr (fit.mpr z))] at hh
      exact hh
    refine pk_le 8 i (fun z => absurd z (by omega)) (fun _ => ?_)
    rw [e8]
    refine ek_if (ap_b_shr t (by omega)) (fun hb => ?_) (fun hb => ?_)
    · exact ap_348 (o := 1) P hd hy hi (Or.inl ⟨rfl, hb⟩) b G1 G0
    · exact ap_348 (o := 0) P hd hy hi (Or.inr ⟨rfl, Bool.eq_false_iff.mpr hb⟩) b G1 G0
/-- what best answers -/
def ap_bv (r : Nat) : Int32 := if r < 64 then nI r else -1
theorem ap_bv_p {r : Nat} (h : r < 64) : ap_bv r = nI r := if_pos h
theorem ap_bv_n {r : Nat} (h : ¬ r < 64) : ap_bv r = -1 := if_neg h
theorem ap_bv_pos (r : Nat) : 0 ≤ ap_bv r ↔ r < 64 := by
  by_cases h : r < 64
  · rw [ap_bv_p h]
    exact ⟨fun _ => h, fun _ => nI_pos' (by omega)⟩
  · rw [ap_bv_n h]
    exact ⟨fun z => absurd z (by decide), fun z => absurd z h⟩
theorem ap_bv_neg (r : Nat) : ap_bv r < 0 ↔ ¬ r < 64 := by
  by_cases h : r < 64
  · rw [ap_bv_p h]
    exact ⟨fun z => absurd z (nI_pos (by omega)), fun z => absurd h z⟩
  · rw [ap_bv_n h]
    exact ⟨fun _ => h, fun _ => by decide⟩
theorem ap_bv_le {r s : Nat} (hr : r < 64) (hs : s < 64) : ap_bv r ≤ ap_bv s ↔ r ≤ s := by
  rw [ap_bv_p hr, ap_bv_p hs, nI_leI (by omega) (by omega)]
theorem ap_best' {post : Int32 → Prop} {t : Int64} {w h r : Nat} (hw : 1 ≤ w) (hw8 : w ≤ 8) (hh : 1 ≤ h) (hh8 : h ≤ 8) (b : ap_bp (ap_F t) w h r) (H : post (ap_bv r)) : wpL_best post () t (nI w) (nI h) :=
  ap_best hw hw8 hh hh8 b (fun z => by rw [ap_bv_p z] at H; exact H) (fun z => by rw [ap_bv_n z] at H; exact H)
/-- one of the law's sizes -/
theorem ap_sz (x : Int32) : ∃ j : Nat, 1 ≤ j ∧ j ≤ 8 ∧ 1 + (x &&& 7) = nI j := by
  obtain ⟨j, h1, h2⟩ := pk_andE x (m := 7) 3 (by decide)
  exact ⟨1 + j, by omega, by omega, by rw [h2]; exact nI_add 1 j⟩
theorem ap_308 (P : ap_P t l d a1 a2 a3 a4 a6) (hl : l.length ≤ 256) (hd : d ≤ 20) (H : post 1 ()) :
    ∃ n, wL_lawOf_308 post mc ms x2 t (nI d) kc ks 8 8 (nI d) (nI l.length) c5 a1 a2 a3 a4 a5 a6 a7 a8 a9 n 0 0 0 := by
  have e := ap_g_z (fun j => ap_mx l (j + 1))
  have main : ∃ n, wL_lawOf_308 post mc ms x2 t (nI d) kc ks 8 8 (nI d) (nI l.length) c5 a1 a2 a3 a4 a5 a6 a7 a8 a9 n (nI (ap_cf (ap_b t) (8 * 0))) (nI (ap_g (fun j => ap_mx l (j + 1)) 0 0)) (nI 0) := by
    refine pk_loop (σ := Unit) (fun n y _ => wL_lawOf_308 post mc ms x2 t (nI d) kc ks 8 8 (nI d) (nI l.length) c5 a1 a2 a3 a4 a5 a6 a7 a8 a9 n (nI (ap_cf (ap_b t) (8 * y))) (nI (ap_g (fun j => ap_mx l (j + 1)) y 0)) (nI y)) (fun _ _ => True) 8 0 () (by omega) trivial ?_ ?_
    · intro n _ _
      obtain ⟨w, w1, w2, ew⟩ := ap_sz x2
      obtain ⟨h, h1, h2, eh⟩ := ap_sz (x2 >>> ((3 : Int32) &&& 31))
      obtain ⟨r, b⟩ := ap_bp_ex (ap_F t) w h
      rw [ap_g_e (fun j => ap_mx_le P.1 (j + 1))]
      refine pk_le 8 8 (fun _ => nm_r ew (nm_r eh ?_)) (fun z => absurd z (by omega))
      refine ap_best' w1 w2 h1 h2 b ?_
      refine ap_bestPlace hl P.1 P.2.1 w1 w2 h1 h2 b (fun hr => ?_) (fun hr => ?_)
      · refine br_t ((ap_bv_pos r).mpr hr) ?_
        have e1 : 256 * (ap_bv r >>> ((3 : Int32) &&& 31)) + (ap_bv r &&& 7) = nI (256 * (r / 8) + r % 8) := by
          rw [ap_bv_p hr, ap_r3 (by omega), ap_a7 (by omega)]
          exact (congrArg (· + nI (r % 8)) (pk_mul 256 _)).trans (nI_add _ _)
        rw [e1]
        exact ap_473 P hl hd H
      · refine br_f (fun z => hr ((ap_bv_pos r).mp z)) ?_
        exact ap_473 P hl hd H
    · intro n y _ hy _ hw
      refine pk_le 8 y (fun z => absurd z (by omega)) (fun _ => ?_)
      exact ap_318 P hd hy (hw () trivial)
  rw [e] at main
  exact main
end
end
section
/-! ===== the law's four turns ===== -/
section
variable {post : Int32 → St0 → Prop} {mc ms kc ks : Nat} {c1 c2 c3 c4 c5 x0 x1 x2 : Int32} {a1 a2 a3 a4 a5 a6 a7 a8 a9 : Nat → Int32} {t : Int64} {l : List Nat} {d : Nat}
variable {J : Int64 → Int32 → Int32 → Int32 → Int32 → Int32 → Int32 → Int32 → (Nat → Int32) → (Nat → Int32) → (Nat → Int32) → (Nat → Int32) → (Nat → Int32) → (Nat → Int32) → (Nat → Int32) → (Nat → Int32) → (Nat → Int32) → Prop}
theorem ap_284 {i k w h : Nat} (hk : k < 64) (hx : k % 8 + w ≤ 8) (hy : k / 8 + h ≤ 8) (H : ∀ B, (∀ i, i < 64 → (ap_b B i = true ↔ ap_bx k w h i)) → J (t ||| B) (nI (d + 1)) (nI (i + 1)) c1 c2 c3 c4 c5 a1 a2 a3 a4 a5 a6 a7 a8 a9) :
    wL_lawOf_284 post mc ms J x0 x1 x2 (nI d) (nI i) (nI h) (nI w) (nI k) t kc ks c1 c2 c3 c4 c5 a1 a2 a3 a4 a5 a6 a7 a8 a9 := by
  unfold wL_lawOf_284
  exact ap_box hk hx hy (fun B hB => nm_e (nm_r (nI_1 d) (nm_r (nI_1 i) (H B hB))))
theorem ap_169 {i k w h tw th tn : Nat} (hd : d < 20) (hk : k < 64) (hc : (tn = 0 ∧ tw = w ∧ th = h) ∨ (tn = 1 ∧ tw = h ∧ th = w)) (hw : 1 ≤ tw) (hw8 : tw ≤ 8) (hx : k % 8 + tw ≤ 8) (hy : k / 8 + th ≤ 8) (e1 : a1 d = nI (k % 8)) (e2 : a2 d = nI (k / 8)) (e3 : a3 d = nI tw) (e4 : a4 d = nI th)
    (H : ∀ B, (∀ i, i < 64 → (ap_b B i = true ↔ ap_bx k tw th i)) → J (t ||| B) (nI (d + 1)) (nI (i + 1)) c1 c2 c3 c4 c5 a1 a2 a3 a4 a5 a6 a7 a8 a9) :
    wL_lawOf_169 post mc ms J x0 x1 x2 t (nI d) (nI i) (nI w) (nI h) (nI tn) (nI k) (nI d) (nI d) kc ks c1 c2 c3 c4 c5 a1 a2 a3 a4 a5 a6 a7 a8 a9 := by
  have n3 : ¬ a3 d = 0 := by rw [e3]; exact nI_ne0 (by omega) (by omega)
  unfold wL_lawOf_169
  refine br_t rfl (br_f (nI_pos (by omega)) ?_)
  refine ap_look (m := 0) hd n3 (Or.inl ⟨rfl, rfl⟩) (br_t (by rw [e1, ap_a7 (by omega)]) ?_)
  refine ap_look (m := 1) hd n3 (Or.inr (Or.inl ⟨rfl, rfl⟩)) (br_t (by rw [e2, ap_r3 (by omega)]) ?_)
  refine ap_look (m := 2) hd n3 (Or.inr (Or.inr (Or.inl ⟨rfl, rfl⟩))) ?_
  rcases hc with ⟨rfl, rfl, rfl⟩ | ⟨rfl, rfl, rfl⟩
  · refine br_t rfl ?_
    unfold wL_lawOf_229
    refine br_t e3 (ap_look (m := 3) hd n3 (Or.inr (Or.inr (Or.inr ⟨rfl, rfl⟩))) (br_t rfl ?_))
    unfold wL_lawOf_251
    refine br_t e4 (br_t rfl ?_)
    unfold wL_lawOf_272
    exact br_t rfl (ap_284 hk hx hy H)
  · refine br_f (by decide) ?_
    unfold wL_lawOf_229
    refine br_t e3 (ap_look (m := 3) hd n3 (Or.inr (Or.inr (Or.inr ⟨rfl, rfl⟩))) (br_f (by decide) ?_))
    unfold wL_lawOf_251
    refine br_t e4 (br_f (by decide) ?_)
    unfold wL_lawOf_272
    exact br_f (by decide) (ap_284 hk hx hy H)
theorem ap_141 {i m r s w h k tw th tn : Nat} (P : ap_P t l d a1 a2 a3 a4 a6) (hd : d < 19) (hl : l.length ≤ 64) (hw : 1 ≤ w) (hw8 : w ≤ 8) (hh : 1 ≤ h) (hh8 : h ≤ 8) (hm : m ≤ 1) (b1 : ap_bp (ap_F t) w h r) (b2 : ap_bp (ap_F t) h w s) (hc : ap_ch m r s w h k tw th tn)
    (H0 : J t (nI d) (nI (i + 1)) 8 8 (nI d) (nI l.length) c5 a1 a2 a3 a4 a5 a6 a7 a8 a9)
    (H1 : ∀ B u q b1 b2 b3 b4 b5 b6 b7, u.length ≤ 4 * l.length → ap_P (t ||| B) u (d + 1) b1 b2 b3 b4 b6 → J (t ||| B) (nI (d + 1)) (nI (i + 1)) 8 8 (nI (d + 1)) (nI u.length) (nI q) b1 b2 b3 b4 b5 b6 b7 a8 a9) :
    wL_lawOf_141 post mc ms J x0 x1 x2 t (nI d) (nI i) (nI w) (nI h) (nI m) (nI tn) (ap_bv k) kc ks 8 8 (nI d) (nI l.length) c5 a1 a2 a3 a4 a5 a6 a7 a8 a9 := by
  have P' := P
  obtain ⟨I, A, X, Y, W, E, Q, hO, hS⟩ := P
  have hc' : (tn = 0 ∧ tw = w ∧ th = h) ∨ (tn = 1 ∧ tw = h ∧ th = w) := by
    unfold ap_ch at hc
    omega
  have hf : k < 64 → ap_fr (ap_F t) (k % 8) (k / 8) tw th := by
    rcases hc with ⟨_, _, rfl, rfl, rfl⟩ | ⟨_, _, rfl, rfl, rfl⟩
    · exact b1.2.1
    · exact b2.2.1
  unfold wL_lawOf_141
  refine ap_place (ap_F_on t) hd hl I A Q hw hw8 hh hh8 hm b1 b2 hc (fun hk => ?_) (fun hk u q b5 b6 b7 h1 h2 h3 => ?_)
  · refine br_f (fun z => hk ((ap_bv_pos k).mp z)) ?_
    unfold wL_lawOf_169
    exact br_t rfl (br_t ((ap_bv_neg k).mpr hk) (nm_r (nI_1 i) H0))
  · refine br_t ((ap_bv_pos k).mpr hk) ?_
    have tw1 : 1 ≤ tw := by omega
    have th1 : 1 ≤ th := by omega
    obtain ⟨hx, hy⟩ := ap_fr_on (ap_F_on t) tw1 th1 (hf hk)
    rw [ap_bv_p hk]
    exact ap_169 (by omega) hk hc' tw1 (by omega) hx hy pk_us pk_us pk_us pk_us (fun B hB => H1 B u q _ _ _ _ b5 b6 b7 h1 (ap_P_new P' hk tw1 th1 (hf hk) hB h2 h3))
theorem ap_103 {i m r s w h : Nat} {z : Int32} (P : ap_P t l d a1 a2 a3 a4 a6) (hd : d < 19) (hl : l.length ≤ 64) (hw : 1 ≤ w) (hw8 : w ≤ 8) (hh : 1 ≤ h) (hh8 : h ≤ 8) (hm : (m = 0 ∧ z = -1) ∨ (m = 1 ∧ z = ap_bv s)) (b1 : ap_bp (ap_F t) w h r) (b2 : ap_bp (ap_F t) h w s)
    (H0 : J t (nI d) (nI (i + 1)) 8 8 (nI d) (nI l.length) c5 a1 a2 a3 a4 a5 a6 a7 a8 a9)
    (H1 : ∀ B u q b1 b2 b3 b4 b5 b6 b7, u.length ≤ 4 * l.length → ap_P (t ||| B) u (d + 1) b1 b2 b3 b4 b6 → J (t ||| B) (nI (d + 1)) (nI (i + 1)) 8 8 (nI (d + 1)) (nI u.length) (nI q) b1 b2 b3 b4 b5 b6 b7 a8 a9) :
    wL_lawOf_103 post mc ms J x0 x1 x2 t (nI d) (nI i) (nI w) (nI h) (nI m) (ap_bv r) z kc ks 8 8 (nI d) (nI l.length) c5 a1 a2 a3 a4 a5 a6 a7 a8 a9 := by
  have no : ¬ (m = 1 ∧ s < 64 ∧ (¬ r < 64 ∨ s < r)) → wL_lawOf_126 post mc ms J x0 x1 x2 t (nI d) (nI i) (nI w) (nI h) (nI m) (ap_bv r) z kc ks 8 8 (nI d) (nI l.length) c5 a1 a2 a3 a4 a5 a6 a7 a8 a9 := by
    intro hn
    unfold wL_lawOf_126 wL_lawOf_127
    exact br_t rfl (ap_141 (tn := 0) P hd hl hw hw8 hh hh8 (by omega) b1 b2 (Or.inl ⟨rfl, hn, rfl, rfl, rfl⟩) H0 H1)
  have yes : (m = 1 ∧ s < 64 ∧ (¬ r < 64 ∨ s < r)) → wL_lawOf_122 post mc ms J x0 x1 x2 t (nI d) (nI i) (nI w) (nI h) (nI m) (ap_bv r) z kc ks 8 8 (nI d) (nI l.length) c5 a1 a2 a3 a4 a5 a6 a7 a8 a9 := by
    intro hy
    have ez : z = ap_bv s := by
      rcases hm with ⟨e, _⟩ | ⟨_, e⟩
      · omega
      · exact e
    unfold wL_lawOf_122 wL_lawOf_127
    rw [ez]
    exact br_f (by decide) (ap_141 (tn := 1) P hd hl hw hw8 hh hh8 (by omega) b1 b2 (Or.inr ⟨rfl, hy, rfl, rfl, rfl⟩) H0 H1)
  unfold wL_lawOf_103
  rcases hm with ⟨e, ez⟩ | ⟨e, ez⟩
  · refine br_t (by rw [ez]; decide) (no (fun c => by omega))
  · rw [ez] at no yes ⊢
    refine ek_if (ap_bv_neg s) (fun hs => no (fun c => by omega)) (fun hs => ?_)
    refine ek_if (ap_bv_neg r) (fun hr => yes (by omega)) (fun hr => ?_)
    exact ek_if (ap_bv_le (by omega) (by omega)) (fun hrs => no (fun c => by omega)) (fun hrs => yes (by omega))
theorem ap_72 {i m w h : Nat} (P : ap_P t l d a1 a2 a3 a4 a6) (hd : d < 19) (hl : l.length ≤ 64) (hw : 1 ≤ w) (hw8 : w ≤ 8) (hh : 1 ≤ h) (hh8 : h ≤ 8) (hm : m = 0 ∨ m = 1)
    (H0 : J t (nI d) (nI (i + 1)) 8 8 (nI d) (nI l.length) c5 a1 a2 a3 a4 a5 a6 a7 a8 a9)
    (H1 : ∀ B u q b1 b2 b3 b4 b5 b6 b7, u.length ≤ 4 * l.length → ap_P (t ||| B) u (d + 1) b1 b2 b3 b4 b6 → J (t ||| B) (nI (d + 1)) (nI (i + 1)) 8 8 (nI (d + 1)) (nI u.length) (nI q) b1 b2 b3 b4 b5 b6 b7 a8 a9) :
    wL_lawOf_72 post mc ms J x0 x1 x2 t (nI d) (nI i) (nI w) (nI h) (nI m) kc ks 8 8 (nI d) (nI l.length) c5 a1 a2 a3 a4 a5 a6 a7 a8 a9 := by
  obtain ⟨r, b1⟩ := ap_bp_ex (ap_F t) w h
  obtain ⟨s, b2⟩ := ap_bp_ex (ap_F t) h w
  unfold wL_lawOf_72
  refine ap_best' hw hw8 hh hh8 b1 ?_
  rcases hm with rfl | rfl
  · exact br_t rfl (ap_103 (s := s) P hd hl hw hw8 hh hh8 (Or.inl ⟨rfl, rfl⟩) b1 b2 H0 H1)
  · exact br_f (by decide) (ap_best' hh hh8 hw hw8 b2 (ap_103 (s := s) P hd hl hw hw8 hh hh8 (Or.inr ⟨rfl, rfl⟩) b1 b2 H0 H1))
end
section
variable {post : Int32 → St0 → Prop} {mc ms kc ks : Nat} {c5 x0 x1 x2 : Int32} {a1 a2 a3 a4 a5 a6 a7 a8 a9 : Nat → Int32}
theorem ap_21 {l : List Nat} (P : ap_P 0 l 0 a1 a2 a3 a4 a6) (hl : l.length ≤ 1) (H : post 1 ()) :
    ∃ n, wL_lawOf_21 post mc ms x0 x1 x2 kc ks n 0 0 0 8 8 0 (nI l.length) c5 a1 a2 a3 a4 a5 a6 a7 a8 a9 := by
  refine pk_loop (σ := Int64 × Nat × List Nat × Int32 × (Nat → Int32) × (Nat → Int32) × (Nat → Int32) × (Nat → Int32) × (Nat → Int32) × (Nat → Int32) × (Nat → Int32))
    (fun n i s => wL_lawOf_21 post mc ms x0 x1 x2 kc ks n s.1 (nI s.2.1) (nI i) 8 8 (nI s.2.1) (nI s.2.2.1.length) s.2.2.2.1 s.2.2.2.2.1 s.2.2.2.2.2.1 s.2.2.2.2.2.2.1 s.2.2.2.2.2.2.2.1 s.2.2.2.2.2.2.2.2.1 s.2.2.2.2.2.2.2.2.2.1 s.2.2.2.2.2.2.2.2.2.2 a8 a9)
    (fun i s => ap_P s.1 s.2.2.1 s.2.1 s.2.2.2.2.1 s.2.2.2.2.2.1 s.2.2.2.2.2.2.1 s.2.2.2.2.2.2.2.1 s.2.2.2.2.2.2.2.2.2.1 ∧ s.2.1 ≤ i ∧ s.2.2.1.length ≤ 4 ^ i) 4 0 (0, 0, l, c5, a1, a2, a3, a4, a5, a6, a7) (by omega) ⟨P, Nat.le_refl _, hl⟩ ?_ ?_
  · intro n s hI
    obtain ⟨t, d, l, c, b1, b2, b3, b4, b5, b6, b7⟩ := s
    obtain ⟨P, h1, h2⟩ := hI
    dsimp only at P h1 h2
    refine pk_le 4 4 (fun _ => ?_) (fun z => absurd z (by omega))
    have hl' : l.length ≤ 256 := h2
    have hd : d ≤ 20 := by omega
    exact ap_308 P hl' hd H
  · intro n i s hi hI hw
    obtain ⟨t, d, l, c, b1, b2, b3, b4, b5, b6, b7⟩ := s
    obtain ⟨P, h1, h2⟩ := hI
    dsimp only at P h1 h2
    have p4 : 4 ^ i ≤ 4 ^ 3 := Nat.pow_le_pow_right (by omega) (by omega)
    have p5 : 4 ^ (i + 1) = 4 ^ i * 4 := Nat.pow_succ 4 i
    obtain ⟨w, w1, w2, ew⟩ := ap_sz (x0 >>> ((6 * nI i) &&& 31))
    obtain ⟨h, g1, g2, eh⟩ := ap_sz (x0 >>> (((6 * nI i) + 3) &&& 31))
    have H0 := hw (t, d, l, c, b1, b2, b3, b4, b5, b6, b7) ⟨P, by dsimp only; omega, by dsimp only; omega⟩
    have H1 : ∀ B u q b1 b2 b3 b4 b5 b6 b7, u.length ≤ 4 * l.length → ap_P (t ||| B) u (d + 1) b1 b2 b3 b4 b6 → wL_lawOf_21 post mc ms x0 x1 x2 kc ks n (t ||| B) (nI (d + 1)) (nI (i + 1)) 8 8 (nI (d + 1)) (nI u.length) (nI q) b1 b2 b3 b4 b5 b6 b7 a8 a9 :=
      fun B u q b1 b2 b3 b4 b5 b6 b7 hu hP => hw (t ||| B, d + 1, u, nI q, b1, b2, b3, b4, b5, b6, b7) ⟨hP, by dsimp only; omega, by dsimp only; omega⟩
    refine pk_le 4 i (fun z => absurd z (by omega)) (fun _ => nm_r ew (nm_r eh ?_))
    have hd : d < 19 := by omega
    have hl' : l.length ≤ 64 := by omega
    exact br_c (fun _ => ap_72 (m := 1) P hd hl' w1 w2 g1 g2 (Or.inr rfl) H0 H1) (fun _ => ap_72 (m := 0) P hd hl' w1 w2 g1 g2 (Or.inl rfl) H0 H1)
end
end
section
/-! ===== the start, and what is owed ===== -/
theorem ap_cf_0 : ∀ n, ap_cf (ap_b 0) n = n := by
  intro n
  induction n with
  | zero => rfl
  | succ n ih =>
    show ap_cf (ap_b 0) n + (if ap_b 0 n = true then 0 else 1) = n + 1
    rw [ih, ap_b_0, if_neg (by decide)]
theorem ap_P_0 {a1 a2 a3 a4 a6 : Nat → Int32} (h3 : ∀ j, j < 20 → a3 j = 0) : ap_P 0 [ap_pk 0 0 8 8] 0 a1 a2 a3 a4 (upd a6 0 (nI (ap_pk 0 0 8 8))) := by
  refine ⟨⟨fun n hn => ?_, fun x y w h hw hh hf => ?_⟩, ap_A_put (l := []) _ (ap_A_0 a6), fun _ => 0, fun _ => 0, fun _ => 0, fun _ => 0, ⟨fun j hj => absurd hj (by omega), fun j _ hj => h3 j hj⟩, fun x y _ _ => ?_, ?_⟩
  · rw [List.mem_singleton.mp hn]
    exact ap_mkho (by omega) (by omega) (by omega) (by omega) (fun i j _ h1 _ h2 => ⟨by omega, by omega, ap_b_0 _⟩)
  · obtain ⟨h1, h2⟩ := ap_fr_on (ap_F_on 0) hw hh hf
    exact ⟨_, List.mem_singleton.mpr rfl, ap_mkcv (by omega) (by omega) (by omega) (by omega) (by omega) (by omega) (by omega)⟩
  · rw [ap_b_0]
    constructor
    · intro z; exact absurd z (by decide)
    · intro ⟨j, j1, _⟩; exact absurd j1 (by omega)
  · rw [ap_cf_0]
    rfl
theorem ap_lawOf {post : Int32 → St0 → Prop} {x0 x1 x2 : Int32} (H : post 1 ()) : wpL_lawOf post 694 11088 () x0 x1 x2 := by
  unfold wpL_lawOf
  refine ⟨by omega, by omega, 9, 1410, by omega, by omega, ?_⟩
  unfold wpX_init
  refine ⟨by omega, by omega, by omega, by omega, by omega, by omega, by omega, by omega, by omega, by omega, by omega, by omega, by omega, by omega, by omega, by omega, by omega, by omega, ?_⟩
  refine br_t (by decide) (br_t (by decide) ?_)
  unfold wX_init_100
  refine br_t (by decide) (br_t (by decide) ?_)
  unfold wX_init_125
  refine ap_clear (fun b3 b5 h3 => ?_)
  exact ap_21 (l := [ap_pk 0 0 8 8]) (ap_P_0 h3) (Nat.le_refl _) H
theorem ap_cell {post : Int32 → Prop} {L : Nat} {xs : Nat → Int32} (k : Nat) (hL : L ≤ 3) (hk : k ≤ 3) (H : ∀ r, post r) : wpL_cellAt post L xs () (nI k) := by
  unfold wpL_cellAt
  exact pk_le L k (fun _ => H _) (fun z => ⟨pk_in k L z, H _⟩)
theorem i_vc (xs : Nat → Int32) (L : Nat) (hL : L ≤ 3) : wpL_law (fun r => r = 1) L xs := by
  unfold wpL_law
  refine ap_cell 0 hL (by omega) (fun r1 => ap_cell 1 hL (by omega) (fun r2 => ap_cell 2 hL (by omega) (fun r3 => ?_)))
  exact ⟨694, 11088, by omega, by omega, ap_lawOf rfl⟩
end
