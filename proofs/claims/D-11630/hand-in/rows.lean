section
/-- an entry of a key's list: its version and what it says -/
abbrev pm_E : Type := Nat × Option Int32
/-- a place of the entries' arrays, and the entry there -/
abbrev pm_P : Type := Nat × pm_E
/-- a version's place in the list of all six versions -/
def pm_rk : Nat → Nat
  | 0 => 0
  | 1 => 4
  | 2 => 5
  | 3 => 1
  | 4 => 2
  | 5 => 3
  | _ => 6
def pm_lab : Nat → Int64
  | 0 => 1152921504606846976
  | 1 => 1729382256910270464
  | 2 => 2017612633061982208
  | 3 => 1441151880758558720
  | 4 => 1585267068834414592
  | _ => 1657324662872342528
theorem pm_labI : ∀ v, v < 6 → ∀ w, w < 6 → (pm_lab v < pm_lab w ↔ pm_rk v < pm_rk w) := by decide +kernel
def pm_par : Nat → Nat
  | 2 => 1
  | 4 => 3
  | 5 => 4
  | _ => 0
def pm_fol : Nat → Nat → Int32
  | 2, 0 => 1
  | 3, 0 => 1
  | 3, 1 => 2
  | 4, 0 => 3
  | 4, 3 => 1
  | 4, 1 => 2
  | 5, 0 => 3
  | 5, 3 => 4
  | 5, 4 => 1
  | 5, 1 => 2
  | 6, 0 => 3
  | 6, 3 => 4
  | 6, 4 => 5
  | 6, 5 => 1
  | 6, 1 => 2
  | _, _ => -1
/-- parents, labels and followers of the first c versions -/
def pm_V (c : Nat) (a1 : Nat → Int32) (a2 : Nat → Int64) (a3 : Nat → Int32) : Prop :=
  (∀ j, 1 ≤ j → j < c → a1 j = nI (pm_par j)) ∧ (∀ j, j < c → a2 j = pm_lab j) ∧ (∀ j, j < c → a3 j = pm_fol c j)
theorem pm_m1 {i : Nat} (h : i < 2 ^ 31) : ¬ nI i = -1 := by
  intro q
  have a := nI_toInt h
  rw [q] at a
  have b : (-1 : Int32).toInt = -1 := by decide
  omega
/-- what is said, as the arrays say it -/
def pm_ent : Option Int32 → Int32 → Int32 → Prop
  | none, t, _ => t = 0
  | some x, t, w => t = 1 ∧ w = x
def pm_th : Option Int32 → Int32
  | none => 0
  | some _ => 1
def pm_vl : Option Int32 → Int32
  | none => 0
  | some x => x
theorem pm_entS (q : Option Int32) : pm_ent q (pm_th q) (pm_vl q) := by
  cases q with
  | none => exact rfl
  | some x => exact ⟨rfl, rfl⟩
theorem pm_narE {q : Option Int32} {t w : Int32} (h : pm_ent q t w) : vp_nar .boolean t = t := by
  cases q with
  | none =>
    have e : t = 0 := h
    rw [e]
    decide
  | some x =>
    have e : t = 1 := h.1
    rw [e]
    decide
/-- the chain from x on: its places and what stands there -/
def pm_c (c n : Nat) (o : Nat → Nat) (k : Nat) (a5 a6 a7 a8 : Nat → Int32) : Int32 → List pm_P → Prop
  | x, [] => x = -1
  | x, p :: l => x = nI p.1 ∧ p.1 < n ∧ o p.1 = k ∧ a5 p.1 = nI p.2.1 ∧ p.2.1 < c ∧ pm_ent p.2.2 (a7 p.1) (a6 p.1) ∧ pm_c c n o k a5 a6 a7 a8 (a8 p.1) l
theorem pm_c_mono {c c' n : Nat} {o : Nat → Nat} {k : Nat} {a5 a6 a7 a8 : Nat → Int32} (hc : c ≤ c') : ∀ (l : List pm_P) (x : Int32), pm_c c n o k a5 a6 a7 a8 x l → pm_c c' n o k a5 a6 a7 a8 x l := by
  intro l
  induction l with
  | nil => intro x h; exact h
  | cons p l ih =>
    intro x h
    obtain ⟨h1, h2, h3, h4, h5, h6, h7⟩ := h
    exact ⟨h1, h2, h3, h4, by omega, h6, ih _ h7⟩
theorem pm_c_mem {c n : Nat} {o : Nat → Nat} {k : Nat} {a5 a6 a7 a8 : Nat → Int32} : ∀ (l : List pm_P) (x : Int32), pm_c c n o k a5 a6 a7 a8 x l → ∀ p, p ∈ l → p.1 < n ∧ o p.1 = k ∧ a5 p.1 = nI p.2.1 ∧ p.2.1 < c ∧ pm_ent p.2.2 (a7 p.1) (a6 p.1) := by
  intro l
  induction l with
  | nil => intro x h p hp; cases hp
  | cons q l ih =>
    intro x h p hp
    obtain ⟨h1, h2, h3, h4, h5, h6, h7⟩ := h
    rcases List.mem_cons.mp hp with e | e
    · rw [e]
      exact ⟨h2, h3, h4, h5, h6⟩
    · exact ih _ h7 p e
theorem pm_c_tail {c n : Nat} {o : Nat → Nat} {k : Nat} {a5 a6 a7 a8 : Nat → Int32} {p : pm_P} {l2 : List pm_P} : ∀ (l1 : List pm_P) (x : Int32), pm_c c n o k a5 a6 a7 a8 x (l1 ++ p :: l2) → pm_c c n o k a5 a6 a7 a8 (a8 p.1) l2 := by
  intro l1
  induction l1 with
  | nil =>
    intro x h
    obtain ⟨h1, h2, h3, h4, h5, h6, h7⟩ := h
    exact h7
  | cons q l ih =>
    intro x h
    obtain ⟨h1, h2, h3, h4, h5, h6, h7⟩ := h
    exact ih _ h7
theorem pm_c_frame {c n n' : Nat} {o o' : Nat → Nat} {k : Nat} {a5 a6 a7 a8 b5 b6 b7 b8 : Nat → Int32} (hn : n ≤ n') : ∀ (l : List pm_P) (x : Int32), pm_c c n o k a5 a6 a7 a8 x l → (∀ p, p ∈ l → o' p.1 = o p.1 ∧ b5 p.1 = a5 p.1 ∧ b6 p.1 = a6 p.1 ∧ b7 p.1 = a7 p.1 ∧ b8 p.1 = a8 p.1) → pm_c c n' o' k b5 b6 b7 b8 x l := by
  intro l
  induction l with
  | nil => intro x h _; exact h
  | cons p l ih =>
    intro x h hf
    obtain ⟨h1, h2, h3, h4, h5, h6, h7⟩ := h
    obtain ⟨e0, e5, e6, e7, e8⟩ := hf p List.mem_cons_self
    refine ⟨h1, by omega, by rw [e0]; exact h3, by rw [e5]; exact h4, h5, by rw [e6, e7]; exact h6, ?_⟩
    rw [e8]
    exact ih _ h7 (fun q hq => hf q (List.mem_cons_of_mem _ hq))
/-- the ghost: a new place is the key's own -/
def pm_o (o : Nat → Nat) (n k : Nat) : Nat → Nat := fun j => if j = n then k else o j
theorem pm_oN {o : Nat → Nat} {n k : Nat} : pm_o o n k n = k := if_pos rfl
theorem pm_oL {o : Nat → Nat} {n k j : Nat} (h : j < n) : pm_o o n k j = o j := if_neg (by omega)
theorem pm_c_ins0 {c n : Nat} {o : Nat → Nat} {k : Nat} {a5 a6 a7 a8 : Nat → Int32} {x : Int32} {l : List pm_P} {v : Nat} {q : Option Int32} {t w : Int32}
    (h : pm_c c n o k a5 a6 a7 a8 x l) (hv : v < c) (he : pm_ent q t w) :
    pm_c c (n + 1) (pm_o o n k) k (upd a5 n (nI v)) (upd a6 n w) (upd a7 n t) (upd a8 n x) (nI n) ((n, v, q) :: l) := by
  refine ⟨rfl, Nat.lt_succ_self n, pm_oN, pk_us, hv, ?_, ?_⟩
  · show pm_ent q (upd a7 n t n) (upd a6 n w n)
    rw [pk_us, pk_us]
    exact he
  · show pm_c c (n + 1) (pm_o o n k) k (upd a5 n (nI v)) (upd a6 n w) (upd a7 n t) (upd a8 n x) (upd a8 n x n) l
    rw [pk_us]
    refine pm_c_frame (Nat.le_succ n) l x h (fun p hp => ?_)
    have hl := (pm_c_mem l x h p hp).1
    have hne : p.1 ≠ n := by omega
    exact ⟨pm_oL hl, pk_un hne, pk_un hne, pk_un hne, pk_un hne⟩
theorem pm_c_ins {c n : Nat} {o : Nat → Nat} {k : Nat} {a5 a6 a7 a8 : Nat → Int32} {p : pm_P} {l2 : List pm_P} {v : Nat} {q : Option Int32} {t w : Int32} (hv : v < c) (he : pm_ent q t w) :
    ∀ (l1 : List pm_P) (x : Int32), pm_c c n o k a5 a6 a7 a8 x (l1 ++ p :: l2) → (∀ r, r ∈ l1 → r.1 ≠ p.1) → (∀ r, r ∈ l2 → r.1 ≠ p.1) →
    pm_c c (n + 1) (pm_o o n k) k (upd a5 n (nI v)) (upd a6 n w) (upd a7 n t) (upd (upd a8 n (a8 p.1)) p.1 (nI n)) x (l1 ++ p :: (n, v, q) :: l2) := by
  intro l1
  induction l1 with
  | nil =>
    intro x h d1 d2
    obtain ⟨h1, h2, h3, h4, h5, h6, h7⟩ := h
    have hne : p.1 ≠ n := by omega
    refine ⟨h1, by omega, by rw [pm_oL h2]; exact h3, by rw [pk_un hne]; exact h4, h5, by rw [pk_un hne, pk_un hne]; exact h6, ?_⟩
    rw [pk_us]
    refine ⟨rfl, Nat.lt_succ_self n, pm_oN, pk_us, hv, ?_, ?_⟩
    · show pm_ent q (upd a7 n t n) (upd a6 n w n)
      rw [pk_us, pk_us]
      exact he
    · show pm_c c (n + 1) (pm_o o n k) k (upd a5 n (nI v)) (upd a6 n w) (upd a7 n t) (upd (upd a8 n (a8 p.1)) p.1 (nI n)) (upd (upd a8 n (a8 p.1)) p.1 (nI n) n) l2
      rw [pk_un (Ne.symm hne), pk_us]
      refine pm_c_frame (Nat.le_succ n) l2 _ h7 (fun r hr => ?_)
      have hl := (pm_c_mem l2 _ h7 r hr).1
      have hne2 : r.1 ≠ n := by omega
      exact ⟨pm_oL hl, pk_un hne2, pk_un hne2, pk_un hne2, by rw [pk_un (d2 r hr), pk_un hne2]⟩
  | cons r l ih =>
    intro x h d1 d2
    obtain ⟨h1, h2, h3, h4, h5, h6, h7⟩ := h
    have hne : r.1 ≠ n := by omega
    refine ⟨h1, by omega, by rw [pm_oL h2]; exact h3, by rw [pk_un hne]; exact h4, h5, by rw [pk_un hne, pk_un hne]; exact h6, ?_⟩
    rw [pk_un (d1 r List.mem_cons_self), pk_un hne]
    exact ih _ h7 (fun s hs => d1 s (List.mem_cons_of_mem _ hs)) d2
theorem pm_nd {A B : List Nat} {n : Nat} (h : (A ++ B).Nodup) (hn : ∀ i, i ∈ A ++ B → i < n) : (A ++ n :: B).Nodup :=
  (List.Perm.nodup_iff List.perm_middle).mpr (List.nodup_cons.mpr ⟨fun hm => absurd (hn n hm) (Nat.lt_irrefl n), h⟩)
/-- the 32 chains, that of the key k by its places -/
def pm_G (c n : Nat) (o : Nat → Nat) (C : Nat → List pm_E) (k : Nat) (l : List pm_P) (a4 a5 a6 a7 a8 : Nat → Int32) : Prop :=
  (∀ j, j < 32 → j ≠ k → ∃ l' : List pm_P, pm_c c n o j a5 a6 a7 a8 (a4 j) l' ∧ (l'.map Prod.fst).Nodup ∧ l'.map Prod.snd = C j) ∧ pm_c c n o k a5 a6 a7 a8 (a4 k) l ∧ (l.map Prod.fst).Nodup
/-- the 32 chains -/
def pm_H (c N : Nat) (C : Nat → List pm_E) (f1 : Int32) (a4 a5 a6 a7 a8 : Nat → Int32) : Prop :=
  ∃ (n : Nat) (o : Nat → Nat), n ≤ N ∧ f1 = nI n ∧ ∀ j, j < 32 → ∃ l' : List pm_P, pm_c c n o j a5 a6 a7 a8 (a4 j) l' ∧ (l'.map Prod.fst).Nodup ∧ l'.map Prod.snd = C j
def pm_up (C : Nat → List pm_E) (k : Nat) (d : List pm_E) : Nat → List pm_E := fun j => if j = k then d else C j
theorem pm_HG {c N : Nat} {C : Nat → List pm_E} {f1 : Int32} {a4 a5 a6 a7 a8 : Nat → Int32} (h : pm_H c N C f1 a4 a5 a6 a7 a8) {k : Nat} (hk : k < 32) :
    ∃ (n : Nat) (o : Nat → Nat) (l : List pm_P), n ≤ N ∧ f1 = nI n ∧ pm_G c n o C k l a4 a5 a6 a7 a8 ∧ l.map Prod.snd = C k := by
  obtain ⟨n, o, hn, hf, hj⟩ := h
  obtain ⟨l, h1, h2, h3⟩ := hj k hk
  exact ⟨n, o, l, hn, hf, ⟨fun j hj32 _ => hj j hj32, h1, h2⟩, h3⟩
theorem pm_GH {c n N : Nat} {o : Nat → Nat} {C : Nat → List pm_E} {k : Nat} {l : List pm_P} {a4 a5 a6 a7 a8 : Nat → Int32} (h : pm_G c n o C k l a4 a5 a6 a7 a8) (hn : n ≤ N) {d : List pm_E} (hd : l.map Prod.snd = d) :
    pm_H c N (pm_up C k d) (nI n) a4 a5 a6 a7 a8 := by
  obtain ⟨g1, g2, g3⟩ := h
  refine ⟨n, o, hn, rfl, fun j hj => ?_⟩
  by_cases e : j = k
  · subst e
    exact ⟨l, g2, g3, hd.trans (if_pos rfl).symm⟩
  · obtain ⟨l', x1, x2, x3⟩ := g1 j hj e
    exact ⟨l', x1, x2, x3.trans (if_neg e).symm⟩
theorem pm_H_mono {c c' N N' : Nat} {C : Nat → List pm_E} {f1 : Int32} {a4 a5 a6 a7 a8 : Nat → Int32} (h : pm_H c N C f1 a4 a5 a6 a7 a8) (hc : c ≤ c') (hN : N ≤ N') : pm_H c' N' C f1 a4 a5 a6 a7 a8 := by
  obtain ⟨n, o, hn, hf, hj⟩ := h
  refine ⟨n, o, by omega, hf, fun j hj32 => ?_⟩
  obtain ⟨l, h1, h2, h3⟩ := hj j hj32
  exact ⟨l, pm_c_mono hc l _ h1, h2, h3⟩
theorem pm_H_eq {c N : Nat} {C D : Nat → List pm_E} {f1 : Int32} {a4 a5 a6 a7 a8 : Nat → Int32} (h : pm_H c N C f1 a4 a5 a6 a7 a8) (he : ∀ j, j < 32 → C j = D j) : pm_H c N D f1 a4 a5 a6 a7 a8 := by
  obtain ⟨n, o, hn, hf, hj⟩ := h
  refine ⟨n, o, hn, hf, fun j hj32 => ?_⟩
  obtain ⟨l, h1, h2, h3⟩ := hj j hj32
  exact ⟨l, h1, h2, h3.trans (he j hj32)⟩
/-- the last place of a list, or what was before -/
def pm_lst : Int32 → List pm_P → Int32
  | x, [] => x
  | _, p :: l => pm_lst (nI p.1) l
theorem pm_lst_app (p : pm_P) : ∀ (l : List pm_P) (x : Int32), pm_lst x (l ++ [p]) = nI p.1 := by
  intro l
  induction l with
  | nil => intro x; exact rfl
  | cons q l ih => intro x; exact ih _
theorem pm_snoc (l : List pm_P) : l = [] ∨ ∃ l' p, l = l' ++ [p] := by
  rcases List.eq_nil_or_concat l with h | ⟨l', p, h⟩
  · exact Or.inl h
  · exact Or.inr ⟨l', p, by rw [h, List.concat_eq_append]⟩
/-- inserting at a place of the key's list keeps all chains -/
theorem pm_G_ins0 {c n : Nat} {o : Nat → Nat} {C : Nat → List pm_E} {k : Nat} {l : List pm_P} {a4 a5 a6 a7 a8 : Nat → Int32} {v : Nat} {q : Option Int32} {t w : Int32} (h : pm_G c n o C k l a4 a5 a6 a7 a8) (hv : v < c) (he : pm_ent q t w) :
    pm_G c (n + 1) (pm_o o n k) C k ((n, v, q) :: l) (upd a4 k (nI n)) (upd a5 n (nI v)) (upd a6 n w) (upd a7 n t) (upd a8 n (a4 k)) := by
  obtain ⟨g1, g2, g3⟩ := h
  refine ⟨fun j hj hjk => ?_, ?_, ?_⟩
  · obtain ⟨l', x1, x2, x3⟩ := g1 j hj hjk
    refine ⟨l', ?_, x2, x3⟩
    rw [pk_un hjk]
    refine pm_c_frame (Nat.le_succ n) l' _ x1 (fun p hp => ?_)
    have hl := (pm_c_mem l' _ x1 p hp).1
    have hne : p.1 ≠ n := by omega
    exact ⟨pm_oL hl, pk_un hne, pk_un hne, pk_un hne, pk_un hne⟩
  · rw [pk_us]
    exact pm_c_ins0 g2 hv he
  · refine List.nodup_cons.mpr ⟨fun hm => ?_, g3⟩
    obtain ⟨p, hp, e⟩ := List.mem_map.mp hm
    have hl := (pm_c_mem l _ g2 p hp).1
    have e' : p.1 = n := e
    omega
theorem pm_G_ins {c n : Nat} {o : Nat → Nat} {C : Nat → List pm_E} {k : Nat} {l1 l2 : List pm_P} {p : pm_P} {a4 a5 a6 a7 a8 : Nat → Int32} {v : Nat} {q : Option Int32} {t w : Int32} (h : pm_G c n o C k (l1 ++ p :: l2) a4 a5 a6 a7 a8) (hv : v < c) (he : pm_ent q t w) :
    pm_G c (n + 1) (pm_o o n k) C k (l1 ++ p :: (n, v, q) :: l2) a4 (upd a5 n (nI v)) (upd a6 n w) (upd a7 n t) (upd (upd a8 n (a8 p.1)) p.1 (nI n)) := by
  obtain ⟨g1, g2, g3⟩ := h
  have hp := pm_c_mem _ _ g2 p (List.mem_append_right l1 List.mem_cons_self)
  refine ⟨fun j hj hjk => ?_, ?_, ?_⟩
  · obtain ⟨l', x1, x2, x3⟩ := g1 j hj hjk
    refine ⟨l', ?_, x2, x3⟩
    refine pm_c_frame (Nat.le_succ n) l' _ x1 (fun r hr => ?_)
    have hl := pm_c_mem l' _ x1 r hr
    have hne : r.1 ≠ n := by omega
    have hne2 : r.1 ≠ p.1 := by
      intro e
      have e2 := hl.2.1
      rw [e, hp.2.1] at e2
      exact hjk e2.symm
    exact ⟨pm_oL hl.1, pk_un hne, pk_un hne, pk_un hne, by rw [pk_un hne2, pk_un hne]⟩
  · rw [List.map_append, List.map_cons, List.nodup_append, List.nodup_cons] at g3
    obtain ⟨n1, ⟨n2, n3⟩, n4⟩ := g3
    refine pm_c_ins hv he l1 _ g2 (fun r hr => ?_) (fun r hr e => ?_)
    · exact n4 _ (List.mem_map.mpr ⟨r, hr, rfl⟩) _ List.mem_cons_self
    · exact n2 (List.mem_map.mpr ⟨r, hr, e⟩)
  · have e : (l1 ++ p :: (n, v, q) :: l2).map Prod.fst = (l1.map Prod.fst ++ [p.1]) ++ n :: l2.map Prod.fst := by simp
    have e2 : (l1 ++ p :: l2).map Prod.fst = (l1.map Prod.fst ++ [p.1]) ++ l2.map Prod.fst := by simp
    rw [e]
    refine pm_nd (by rw [← e2]; exact g3) (fun i hi => ?_)
    rw [← e2] at hi
    obtain ⟨r, hr, er⟩ := List.mem_map.mp hi
    have hl := (pm_c_mem _ _ g2 r hr).1
    have er' : r.1 = i := er
    omega
/-- what a version sees in a list -/
def pm_lk (v : Nat) : Option Int32 → List pm_E → Option Int32
  | s, [] => s
  | s, e :: l => if pm_rk e.1 ≤ pm_rk v then pm_lk v e.2 l else s
theorem pm_lk_stop {v : Nat} {s : Option Int32} {l : List pm_E} (h : ∀ e l', l = e :: l' → pm_rk v < pm_rk e.1) : pm_lk v s l = s := by
  cases l with
  | nil => exact rfl
  | cons e l =>
    have := h e l rfl
    exact if_neg (by omega)
theorem pm_lk_pass {v : Nat} {p : pm_P} {c2 : List pm_E} (hp : pm_rk p.2.1 ≤ pm_rk v) : ∀ (l : List pm_P) (s : Option Int32), (∀ r, r ∈ l → pm_rk r.2.1 ≤ pm_rk v) → pm_lk v s ((l ++ [p]).map Prod.snd ++ c2) = pm_lk v p.2.2 c2 := by
  intro l
  induction l with
  | nil =>
    intro s _
    exact if_pos hp
  | cons r l ih =>
    intro s h
    have e : pm_lk v s (((r :: l) ++ [p]).map Prod.snd ++ c2) = pm_lk v r.2.2 ((l ++ [p]).map Prod.snd ++ c2) := if_pos (h r List.mem_cons_self)
    rw [e]
    exact ih _ (fun q hq => h q (List.mem_cons_of_mem _ hq))
theorem pm_split (v : Nat) : ∀ l : List pm_P, ∃ l1 l2, l = l1 ++ l2 ∧ (∀ p, p ∈ l1 → pm_rk p.2.1 ≤ pm_rk v) ∧ (∀ p l', l2 = p :: l' → pm_rk v < pm_rk p.2.1) := by
  intro l
  induction l with
  | nil => exact ⟨[], [], rfl, (fun p hp => by cases hp), (fun p l' e => by cases e)⟩
  | cons q l ih =>
    by_cases hq : pm_rk q.2.1 ≤ pm_rk v
    · obtain ⟨l1, l2, e, h1, h2⟩ := ih
      refine ⟨q :: l1, l2, by rw [e]; rfl, fun p hp => ?_, h2⟩
      rcases List.mem_cons.mp hp with e1 | e1
      · rw [e1]; exact hq
      · exact h1 p e1
    · refine ⟨[], q :: l, rfl, (fun p hp => by cases hp), fun p l' e => ?_⟩
      injection e with e1 e2
      rw [← e1]
      omega
end
section
section
variable {f0 f1 f2 f3 : Int32} {a1 : Nat → Int32} {a2 : Nat → Int64} {a3 a4 a5 a6 a7 a8 : Nat → Int32}
theorem pm_adv25 {post : Int32 → Prop} {c n v k : Nat} {o : Nat → Nat} (hV : pm_V c a1 a2 a3) (hc : c ≤ 6) (hn : n ≤ 640) (hv : v < c) {l2 : List pm_P} (hq : ∀ p l, l2 = p :: l → pm_rk v < pm_rk p.2.1) :
    ∀ (l1 : List pm_P) (x4 x5 : Int32), pm_c c n o k a5 a6 a7 a8 x5 (l1 ++ l2) → (∀ p, p ∈ l1 → pm_rk p.2.1 ≤ pm_rk v) → post (pm_lst x4 l1) → ∃ fu, wX_advance_25 post (nI v) f0 f1 f2 f3 a1 a2 a3 a4 a5 a6 a7 a8 fu x4 x5 := by
  have step : ∀ p : pm_P, p.1 < n → a5 p.1 = nI p.2.1 → p.2.1 < c → vp_in (a5 (nI p.1).toNatClampNeg) 40 ∧ (a2 (nI v).toNatClampNeg < a2 (a5 (nI p.1).toNatClampNeg).toNatClampNeg ↔ pm_rk v < pm_rk p.2.1) := by
    intro p h1 h2 h3
    rw [nI_clamp (show p.1 < 2 ^ 31 by omega), h2, nI_clamp (show p.2.1 < 2 ^ 31 by omega), nI_clamp (show v < 2 ^ 31 by omega), hV.2.1 v hv, hV.2.1 _ h3]
    exact ⟨vp_in_nI (by omega) (by omega), pm_labI v (by omega) _ (by omega)⟩
  intro l1
  induction l1 with
  | nil =>
    intro x4 x5 h hp hpost
    cases l2 with
    | nil =>
      have e : x5 = -1 := h
      exact ⟨0 + 1, br_t e hpost⟩
    | cons p l =>
      obtain ⟨h1, h2, h3, h4, h5, h6, h7⟩ := h
      subst h1
      obtain ⟨s1, s2⟩ := step p h2 h4 h5
      exact ⟨0 + 1, br_f (pm_m1 (by omega)) ⟨vp_in_nI (by omega) (by omega), s1, vp_in_nI (by omega) (by omega), br_t (s2.mpr (hq p l rfl)) hpost⟩⟩
  | cons p l ih =>
    intro x4 x5 h hp hpost
    obtain ⟨h1, h2, h3, h4, h5, h6, h7⟩ := h
    subst h1
    obtain ⟨s1, s2⟩ := step p h2 h4 h5
    obtain ⟨fu, hfu⟩ := ih (nI p.1) (a8 p.1) h7 (fun r hr => hp r (List.mem_cons_of_mem _ hr)) hpost
    have hle := hp p List.mem_cons_self
    exact ⟨fu + 1, br_f (pm_m1 (by omega)) ⟨vp_in_nI (by omega) (by omega), s1, vp_in_nI (by omega) (by omega), br_f (fun z => absurd (s2.mp z) (by omega)) ⟨vp_in_nI (by omega) (by omega), nm_r (by rw [nI_clamp (by omega)]) hfu⟩⟩⟩
theorem pm_adv {post : Int32 → Prop} {c n v k : Nat} {o : Nat → Nat} (hV : pm_V c a1 a2 a3) (hc : c ≤ 6) (hn : n ≤ 640) (hv : v < c) (hk : k < 32) {l1 l2 : List pm_P} (h : pm_c c n o k a5 a6 a7 a8 (a4 k) (l1 ++ l2))
    (hp : ∀ p, p ∈ l1 → pm_rk p.2.1 ≤ pm_rk v) (hq : ∀ p l, l2 = p :: l → pm_rk v < pm_rk p.2.1) (hpost : post (pm_lst (-1) l1)) : wpX_advance post (f0, f1, f2, f3, a1, a2, a3, a4, a5, a6, a7, a8) (nI k) (-1) (nI v) :=
  br_t rfl ⟨vp_in_nI hk (by omega), nm_r (by rw [nI_clamp (by omega)]) (pm_adv25 hV hc hn hv hq l1 (-1) (a4 k) h hp hpost)⟩
/-- from a place on -/
theorem pm_advF {post : Int32 → Prop} {c n v k : Nat} {o : Nat → Nat} {x : Int32} {i : Nat} (hV : pm_V c a1 a2 a3) (hc : c ≤ 6) (hn : n ≤ 640) (hv : v < c) (hi : i < n) {l1 l2 : List pm_P} (h : pm_c c n o k a5 a6 a7 a8 (a8 i) (l1 ++ l2))
    (hp : ∀ p, p ∈ l1 → pm_rk p.2.1 ≤ pm_rk v) (hq : ∀ p l, l2 = p :: l → pm_rk v < pm_rk p.2.1) (hpost : post (pm_lst (nI i) l1)) : wpX_advance post (f0, f1, f2, f3, a1, a2, a3, a4, a5, a6, a7, a8) x (nI i) (nI v) :=
  br_f (pm_m1 (by omega)) ⟨vp_in_nI (by omega) (by omega), nm_r (by rw [nI_clamp (by omega)]) (pm_adv25 hV hc hn hv hq l1 (nI i) (a8 i) h hp hpost)⟩
theorem pm_look {post : St2 → Prop} {c N v k : Nat} {C : Nat → List pm_E} (hV : pm_V c a1 a2 a3) (hH : pm_H c N C f1 a4 a5 a6 a7 a8) (hc : c ≤ 6) (hN : N ≤ 640) (hv : v < c) (hk : k < 32)
    (h : post (f0, f1, pm_th (pm_lk v none (C k)), pm_vl (pm_lk v none (C k)), a1, a2, a3, a4, a5, a6, a7, a8)) : wpX_look post (f0, f1, f2, f3, a1, a2, a3, a4, a5, a6, a7, a8) (nI v) (nI k) := by
  obtain ⟨n, o, l, hn, hf, hG, hl⟩ := pm_HG hH hk
  obtain ⟨l1, l2, e, h1, h2⟩ := pm_split v l
  rw [e] at hG
  rw [e] at hl
  have hchain := hG.2.1
  unfold wpX_look
  refine pm_adv hV hc (by omega) hv hk hchain h1 h2 ?_
  have hstop : ∀ e l', l2.map Prod.snd = e :: l' → pm_rk v < pm_rk e.1 := by
    intro e l' he
    cases l2 with
    | nil => cases he
    | cons p l3 =>
      have := h2 p l3 rfl
      rw [List.map_cons] at he
      injection he with he1 he2
      rw [← he1]
      exact this
  rcases pm_snoc l1 with z | ⟨l1', p, z⟩
  · subst z
    have hr : pm_lk v none (C k) = none := by
      rw [← hl]
      exact pm_lk_stop hstop
    rw [hr] at h
    exact br_t rfl ⟨by decide, by decide, br_t rfl h⟩
  · subst z
    have hr : pm_lk v none (C k) = p.2.2 := by
      rw [← hl, List.map_append, pm_lk_pass (h1 p (List.mem_append_right _ List.mem_cons_self)) l1' none (fun r hr => h1 r (List.mem_append_left _ hr))]
      exact pm_lk_stop hstop
    rw [hr] at h
    obtain ⟨m1, m2, m3, m4, m5⟩ := pm_c_mem _ _ hchain p (List.mem_append_left _ (List.mem_append_right _ List.mem_cons_self))
    rw [pm_lst_app]
    have cl : (nI p.1).toNatClampNeg = p.1 := nI_clamp (by omega)
    have hin : vp_in (nI p.1) 640 := vp_in_nI (by omega) (by omega)
    cases hq : p.2.2 with
    | none =>
      rw [hq] at h m5
      have m6 : a7 p.1 = 0 := m5
      exact br_f (pm_m1 (by omega)) ⟨hin, br_t (by rw [cl]; exact m6) ⟨by decide, by decide, br_t rfl h⟩⟩
    | some w =>
      rw [hq] at h m5
      obtain ⟨m6, m7⟩ := m5
      exact br_f (pm_m1 (by omega)) ⟨hin, br_f (by rw [cl, m6]; decide) ⟨by decide, by decide, br_f (by decide) ⟨hin, nm_r (by rw [cl]; exact m7) h⟩⟩⟩
def pm_ob (v c : Nat) : Prop := 1 ≤ c ∧ c < 6 ∧ v < c ∧ pm_par c = v ∧ pm_fol (c + 1) c = pm_fol c v ∧ pm_fol (c + 1) v = nI c ∧ (∀ j, j < c → j ≠ v → pm_fol (c + 1) j = pm_fol c j) ∧
  ((pm_fol (c + 1) c = -1 ∧ 2 ≤ 2305843009213693952 - pm_lab v ∧ pm_lab c = pm_lab v + (2305843009213693952 - pm_lab v) / 2) ∨ (∃ w, w < c ∧ pm_fol (c + 1) c = nI w ∧ 2 ≤ pm_lab w - pm_lab v ∧ pm_lab c = pm_lab v + (pm_lab w - pm_lab v) / 2))
theorem pm_ob1 : pm_ob 0 1 := ⟨by decide, by decide, by decide, by decide, by decide, by decide, by decide, Or.inl ⟨by decide, by decide, by decide⟩⟩
theorem pm_ob2 : pm_ob 1 2 := ⟨by decide, by decide, by decide, by decide, by decide, by decide, by decide, Or.inl ⟨by decide, by decide, by decide⟩⟩
theorem pm_ob3 : pm_ob 0 3 := ⟨by decide, by decide, by decide, by decide, by decide, by decide, by decide, Or.inr ⟨1, by decide, by decide, by decide, by decide⟩⟩
theorem pm_ob4 : pm_ob 3 4 := ⟨by decide, by decide, by decide, by decide, by decide, by decide, by decide, Or.inr ⟨1, by decide, by decide, by decide, by decide⟩⟩
theorem pm_ob5 : pm_ob 4 5 := ⟨by decide, by decide, by decide, by decide, by decide, by decide, by decide, Or.inr ⟨1, by decide, by decide, by decide, by decide⟩⟩
theorem pm_open {post : Int32 → St2 → Prop} {c v : Nat} (hV : pm_V c a1 a2 a3) (hb : pm_ob v c)
    (h : ∀ b1 b2 b3, pm_V (c + 1) b1 b2 b3 → post (nI c) (nI (c + 1), f1, f2, f3, b1, b2, b3, a4, a5, a6, a7, a8)) : wpX_open post (nI c, f1, f2, f3, a1, a2, a3, a4, a5, a6, a7, a8) (nI v) := by
  obtain ⟨h1, h6, hv, hp, hf1, hf2, hf3, hg⟩ := hb
  obtain ⟨V1, V2, V3⟩ := hV
  have cc : (nI c).toNatClampNeg = c := nI_clamp (by omega)
  have cv : (nI v).toNatClampNeg = v := nI_clamp (by omega)
  have ic : vp_in (nI c) 40 := vp_in_nI (by omega) (by omega)
  have iv : vp_in (nI v) 40 := vp_in_nI (by omega) (by omega)
  have hne : c ≠ v := by omega
  have V' : pm_V (c + 1) (upd a1 c (nI v)) (vp_updL a2 c (pm_lab c)) (upd (upd a3 c (a3 v)) v (nI c)) := by
    refine ⟨fun j j1 j2 => ?_, fun j j2 => ?_, fun j j2 => ?_⟩
    · by_cases e : j = c
      · rw [e, pk_us, hp]
      · rw [pk_un e]
        exact V1 j j1 (by omega)
    · by_cases e : j = c
      · rw [e, pk_uLs]
      · rw [pk_uLn e]
        exact V2 j (by omega)
    · by_cases e : j = v
      · rw [e, pk_us, hf2]
      · rw [pk_un e]
        by_cases e2 : j = c
        · rw [e2, pk_us, hf1]
          exact V3 v hv
        · rw [pk_un e2, hf3 j (by omega) e]
          exact V3 j (by omega)
  have e : upd (upd a3 c (a3 v)) v (nI c) c = pm_fol (c + 1) c := by
    rw [pk_un hne, pk_us, V3 v hv, hf1]
  have key : ∀ z0, 2 ≤ z0 - pm_lab v → pm_lab c = pm_lab v + (z0 - pm_lab v) / 2 → wX_open_68 post (nI v) (nI c) z0 (nI (c + 1)) f1 f2 f3 (upd a1 c (nI v)) a2 (upd (upd a3 c (a3 v)) v (nI c)) a4 a5 a6 a7 a8 := by
    intro z0 g1 g2
    unfold wX_open_68
    rw [cv, cc, V2 v hv]
    refine ⟨iv, nm_e (br_t g1 ⟨iv, by decide, ic, nm_e ?_⟩)⟩
    rw [← g2]
    exact h _ _ _ V'
  unfold wpX_open
  dsimp only
  rw [cc, cv]
  refine ⟨ic, nm_e ⟨iv, ic, nm_e ⟨iv, nm_e (nm_r (nI_1 c) ⟨ic, ?_⟩)⟩⟩⟩
  rcases hg with ⟨e1, g1, g2⟩ | ⟨w, hw, e1, g1, g2⟩
  · exact br_t (e.trans e1) (key _ g1 g2)
  · refine br_f (by rw [e, e1]; exact pm_m1 (by omega)) ⟨ic, ?_, ?_⟩
    · rw [e, e1]
      exact vp_in_nI (by omega) (by omega)
    · rw [e, e1, nI_clamp (show w < 2 ^ 31 by omega), V2 w hw]
      exact key _ g1 g2
theorem pm_insert {post : Int32 → St2 → Prop} {c n k v : Nat} {o : Nat → Nat} {C : Nat → List pm_E} {l1 l2 : List pm_P} {q : Option Int32} {t w : Int32} (hG : pm_G c n o C k (l1 ++ l2) a4 a5 a6 a7 a8) (hn : n < 640) (hk : k < 32) (hv : v < c) (he : pm_ent q t w)
    (h : ∀ o' b4 b5 b6 b7 b8, pm_G c (n + 1) o' C k (l1 ++ (n, v, q) :: l2) b4 b5 b6 b7 b8 → post (nI n) (f0, nI (n + 1), f2, f3, a1, a2, a3, b4, b5, b6, b7, b8)) :
    wpX_insert post (f0, nI n, f2, f3, a1, a2, a3, a4, a5, a6, a7, a8) (nI k) (pm_lst (-1) l1) (nI v) t w := by
  have cn : (nI n).toNatClampNeg = n := nI_clamp (by omega)
  have ck : (nI k).toNatClampNeg = k := nI_clamp (by omega)
  have i_n : vp_in (nI n) 640 := vp_in_nI (by omega) (by omega)
  have i_k : vp_in (nI k) 32 := vp_in_nI (by omega) (by omega)
  unfold wpX_insert
  dsimp only
  rw [cn, ck, pm_narE he]
  refine nm_r (nI_1 n) ⟨i_n, nm_e ⟨i_n, nm_e ⟨i_n, nm_e ?_⟩⟩⟩
  rcases pm_snoc l1 with z | ⟨l1', p, z⟩
  · subst z
    exact br_t rfl ⟨i_k, i_n, nm_e ⟨i_k, nm_e (h _ _ _ _ _ _ (pm_G_ins0 hG hv he))⟩⟩
  · subst z
    rw [List.append_assoc] at hG
    have hp := (pm_c_mem _ _ hG.2.1 p (List.mem_append_right _ List.mem_cons_self)).1
    have cp : (nI p.1).toNatClampNeg = p.1 := nI_clamp (by omega)
    have i_p : vp_in (nI p.1) 640 := vp_in_nI (by omega) (by omega)
    rw [pm_lst_app, cp]
    refine br_f (pm_m1 (by omega)) ⟨i_p, i_n, nm_e ⟨i_p, nm_e (h (pm_o o n k) _ _ _ _ _ ?_)⟩⟩
    rw [List.append_assoc]
    exact pm_G_ins hG hv he
def pm_oi : Option Nat → Int32
  | none => -1
  | some a => nI a
/-- what stands behind the written entry -/
def pm_tl : Option Nat → Option Int32 → List pm_E → List pm_E
  | none, _, c2 => c2
  | some a, s, [] => [(a, s)]
  | some a, s, e :: l => if e.1 = a then e :: l else (a, s) :: e :: l
/-- a write at a new version turns the list d into d' -/
def pm_W (made : Nat) (aft : Option Nat) (d : List pm_E) (q : Option Int32) (d' : List pm_E) : Prop :=
  ∃ c1 c2, d = c1 ++ c2 ∧ (∀ e, e ∈ c1 → pm_rk e.1 ≤ pm_rk made ∧ e.1 ≠ made) ∧ (∀ e l, c2 = e :: l → pm_rk made < pm_rk e.1) ∧ d' = c1 ++ (made, q) :: pm_tl aft (pm_lk made none c1) c2
theorem pm_write {post : St2 → Prop} {c N made k : Nat} {aft : Option Nat} {C : Nat → List pm_E} {q : Option Int32} {t w : Int32} {d' : List pm_E} (hV : pm_V c a1 a2 a3) (hH : pm_H c N C f1 a4 a5 a6 a7 a8) (hc : c ≤ 6) (hN : N + 2 ≤ 640) (hm : made < c) (hk : k < 32)
    (ha : pm_fol c made = pm_oi aft) (hac : ∀ a, aft = some a → a < c) (he : pm_ent q t w) (hW : pm_W made aft (C k) q d')
    (h : ∀ f1' b4 b5 b6 b7 b8, pm_H c (N + 2) (pm_up C k d') f1' b4 b5 b6 b7 b8 → post (f0, f1', f2, f3, a1, a2, a3, b4, b5, b6, b7, b8)) :
    wpX_write post (f0, f1, f2, f3, a1, a2, a3, a4, a5, a6, a7, a8) (nI made) (nI k) t w := by
  obtain ⟨c1, c2, e0, h1, h2, e1⟩ := hW
  obtain ⟨n, o, l, hn, hf, hG, hl⟩ := pm_HG hH hk
  subst hf
  rw [e0] at hl
  obtain ⟨l1, l2, el, m1, m2⟩ := List.map_eq_append_iff.mp hl
  subst el
  have hchain := hG.2.1
  have hp1 : ∀ p, p ∈ l1 → pm_rk p.2.1 ≤ pm_rk made := fun p hp => (h1 p.2 (by rw [← m1]; exact List.mem_map.mpr ⟨p, hp, rfl⟩)).1
  have hp2 : ∀ p l, l2 = p :: l → pm_rk made < pm_rk p.2.1 := fun p l e => h2 p.2 (l.map Prod.snd) (by rw [← m2, e]; rfl)
  have hfin : ∀ (l' : List pm_P) (n' : Nat) (o' : Nat → Nat) b4 b5 b6 b7 b8, pm_G c n' o' C k l' b4 b5 b6 b7 b8 → n' ≤ N + 2 → l'.map Prod.snd = d' → post (f0, nI n', f2, f3, a1, a2, a3, b4, b5, b6, b7, b8) :=
    fun l' n' o' b4 b5 b6 b7 b8 g gn gm => h _ _ _ _ _ _ (pm_GH g gn gm)
  -- the write itself, what was there before being known
  have main2 : ∀ ot ow, pm_ent (pm_lk made none c1) ot ow → wX_write_91 post (nI made) (nI k) t w (pm_oi aft) (pm_lst (-1) l1) ot ow f0 (nI n) f2 f3 a1 a2 a3 a4 a5 a6 a7 a8 := by
    intro ot ow hold
    unfold wX_write_91
    refine pm_insert hG (by omega) hk hm he (fun o' b4 b5 b6 b7 b8 hG' => ?_)
    have cn : (nI n).toNatClampNeg = n := nI_clamp (by omega)
    have i_n : vp_in (nI n) 640 := vp_in_nI (by omega) (by omega)
    have ht : pm_c c (n + 1) o' k b5 b6 b7 b8 (b8 n) l2 := pm_c_tail l1 _ hG'.2.1
    -- a second entry is made
    have ins2 : ∀ a, aft = some a → d' = c1 ++ (made, q) :: (a, pm_lk made none c1) :: c2 → wX_write_137 post (nI k) (pm_oi aft) ot ow (nI n) f0 (nI (n + 1)) f2 f3 a1 a2 a3 b4 b5 b6 b7 b8 := by
      intro a ea ed
      have hac' := hac a ea
      subst ea
      have hG2 : pm_G c (n + 1) o' C k ((l1 ++ [(n, made, q)]) ++ l2) b4 b5 b6 b7 b8 := by
        rw [List.append_assoc]
        exact hG'
      have e9 : nI n = pm_lst (-1) (l1 ++ [(n, made, q)]) := (pm_lst_app (n, made, q) l1 (-1)).symm
      unfold wX_write_137 wX_write_138
      refine br_f (pm_m1 (by omega)) (br_t rfl ?_)
      rw [e9]
      refine pm_insert hG2 (by omega) hk hac' hold (fun o2 d4 d5 d6 d7 d8 hG3 => ?_)
      refine hfin _ _ _ _ _ _ _ _ hG3 (by omega) ?_
      rw [ed, ← m1, ← m2]
      simp
    -- no second entry
    have stop : d' = c1 ++ (made, q) :: c2 → post (f0, nI (n + 1), f2, f3, a1, a2, a3, b4, b5, b6, b7, b8) := by
      intro ed
      refine hfin _ _ _ _ _ _ _ _ hG' (by omega) ?_
      rw [ed, List.map_append, List.map_cons, m1, m2]
    refine ⟨i_n, nm_r (by rw [cn]) ?_⟩
    cases aft with
    | none =>
      have s := stop e1
      have r138 : ∀ z, wX_write_138 post (nI k) (pm_oi none) ot ow (nI n) z f0 (nI (n + 1)) f2 f3 a1 a2 a3 b4 b5 b6 b7 b8 := fun z => br_t rfl s
      cases l2 with
      | nil =>
        have e2 : b8 n = -1 := ht
        exact br_t e2 (r138 0)
      | cons p l3 =>
        obtain ⟨t1, t2, t3, t4, t5, t6, t7⟩ := ht
        rw [t1]
        exact br_f (pm_m1 (by omega)) ⟨vp_in_nI (by omega) (by omega), br_c (fun _ => r138 1) (fun _ => r138 0)⟩
    | some a =>
      have hac' := hac a rfl
      cases l2 with
      | nil =>
        have e2 : b8 n = -1 := ht
        have m2' : c2 = [] := m2.symm
        exact br_t e2 (ins2 a rfl (by rw [e1, m2']; rfl))
      | cons p l3 =>
        obtain ⟨t1, t2, t3, t4, t5, t6, t7⟩ := ht
        rw [t1]
        have cp : (nI p.1).toNatClampNeg = p.1 := nI_clamp (by omega)
        have m2' : c2 = p.2 :: l3.map Prod.snd := m2.symm
        by_cases ep : p.2.1 = a
        · refine br_f (pm_m1 (by omega)) ⟨vp_in_nI (by omega) (by omega), br_t (by rw [cp, t4, ep]; rfl) ?_⟩
          refine br_f (pm_m1 (by omega)) (br_f (by decide) (stop ?_))
          rw [e1, m2']
          show c1 ++ (made, q) :: (if p.2.1 = a then p.2 :: l3.map Prod.snd else (a, pm_lk made none c1) :: p.2 :: l3.map Prod.snd) = _
          rw [if_pos ep]
        · refine br_f (pm_m1 (by omega)) ⟨vp_in_nI (by omega) (by omega), br_f ?_ (ins2 a rfl ?_)⟩
          · rw [cp, t4]
            intro z
            exact ep ((nI_eq (by omega) (by omega)).mp z)
          · rw [e1, m2']
            show c1 ++ (made, q) :: (if p.2.1 = a then p.2 :: l3.map Prod.snd else (a, pm_lk made none c1) :: p.2 :: l3.map Prod.snd) = _
            rw [if_neg ep]
  have main : wX_write_52 post (nI made) (nI k) t w (pm_oi aft) (pm_lst (-1) l1) f0 (nI n) f2 f3 a1 a2 a3 a4 a5 a6 a7 a8 := by
    rcases pm_snoc l1 with z | ⟨l1', p, z⟩
    · subst z
      have hr : pm_lk made none c1 = none := by
        rw [← m1]
        rfl
      exact br_t rfl (br_t rfl (main2 0 0 (by rw [hr]; exact rfl)))
    · subst z
      have hr : pm_lk made none c1 = p.2.2 := by
        have := pm_lk_pass (c2 := []) (hp1 p (List.mem_append_right _ List.mem_cons_self)) l1' none (fun r hr => hp1 r (List.mem_append_left _ hr))
        rw [List.append_nil, m1] at this
        exact this
      obtain ⟨g1, g2, g3, g4, g5⟩ := pm_c_mem _ _ hchain p (List.mem_append_left _ (List.mem_append_right _ List.mem_cons_self))
      have cl : (nI p.1).toNatClampNeg = p.1 := nI_clamp (by omega)
      have hin : vp_in (nI p.1) 640 := vp_in_nI (by omega) (by omega)
      have el := pm_lst_app p l1' (-1)
      cases hq : p.2.2 with
      | none =>
        rw [hq] at hr g5
        have g6 : a7 p.1 = 0 := g5
        have m3 := main2 0 0 (by rw [hr]; exact rfl)
        rw [el] at m3 ⊢
        exact br_f (pm_m1 (by omega)) ⟨hin, br_t (by rw [cl]; exact g6) (br_t rfl m3)⟩
      | some y =>
        rw [hq] at hr g5
        obtain ⟨g6, g7⟩ := g5
        have m3 := main2 1 y (by rw [hr]; exact ⟨rfl, rfl⟩)
        rw [el] at m3 ⊢
        refine br_f (pm_m1 (by omega)) ⟨hin, br_f (by rw [cl, g6]; decide) (br_f (by decide) ⟨hin, ?_⟩)⟩
        rw [cl, g7]
        exact m3
  unfold wpX_write
  refine ⟨vp_in_nI (by omega) (by omega), nm_r (by rw [nI_clamp (by omega), hV.2.2 made hm, ha]) (pm_adv hV hc (by omega) hm hk hchain hp1 hp2 ?_)⟩
  rcases pm_snoc l1 with z | ⟨l1', p, z⟩
  · have e2 : pm_lst (-1) l1 = -1 := by rw [z]; rfl
    exact br_t e2 main
  · have hpm : p ∈ l1 := by rw [z]; exact List.mem_append_right _ List.mem_cons_self
    have el : pm_lst (-1) l1 = nI p.1 := by rw [z]; exact pm_lst_app p l1' (-1)
    obtain ⟨g1, g2, g3, g4, g5⟩ := pm_c_mem _ _ hchain p (List.mem_append_left _ hpm)
    have g6 := (h1 p.2 (by rw [← m1]; exact List.mem_map.mpr ⟨p, hpm, rfl⟩)).2
    refine br_f (by rw [el]; exact pm_m1 (by omega)) ⟨by rw [el]; exact vp_in_nI (by omega) (by omega), br_f ?_ main⟩
    rw [el, nI_clamp (show p.1 < 2 ^ 31 by omega), g3]
    intro z2
    exact g6 ((nI_eq (by omega) (by omega)).mp z2)
end
end
section
section
variable {f0 f1 f2 f3 : Int32} {a1 : Nat → Int32} {a2 : Nat → Int64} {a3 a4 a5 a6 a7 a8 : Nat → Int32}
/-- a plan: b keys from the key a on -/
def pm_pl (P : Int32) (a b : Nat) : Prop := P = nI (16 * a + b) ∧ 1 ≤ b ∧ b ≤ 8 ∧ a + b ≤ 32
theorem pm_and15 {P : Int32} {a b : Nat} (h : pm_pl P a b) : P &&& 15 = nI b := by
  obtain ⟨h1, h2, h3, h4⟩ := h
  rw [h1, pk_andN (by omega) 4 (by decide)]
  congr 1
  omega
theorem pm_shr4 {P : Int32} {a b : Nat} (h : pm_pl P a b) : P >>> ((4 : Int32) &&& 31) = nI a := by
  obtain ⟨h1, h2, h3, h4⟩ := h
  rw [h1, pk_shrN (by omega) _ 4 (by decide)]
  congr 1
  omega
theorem pm_plan {post : Int32 → Prop} (x : Int32) (h : ∀ P a b, pm_pl P a b → post P) : wpL_plan post () x := by
  obtain ⟨j, hj, ej⟩ := pk_andE x (m := 31) 5 (by decide)
  obtain ⟨i, hi, ei⟩ := pk_andE (x >>> ((5 : Int32) &&& 31)) (m := 7) 3 (by decide)
  have e2 : 1 + ((x >>> ((5 : Int32) &&& 31)) &&& 7) = nI (1 + i) := by
    rw [ei]
    exact nI_add 1 i
  unfold wpL_plan
  refine nm_r ej (nm_r e2 ?_)
  rw [nI_add]
  have e16 : (16 : Int32) * nI j = nI (16 * j) := pk_mul 16 j
  rw [e16]
  refine pk_le (j + (1 + i)) 32 (fun z => ?_) (fun z => ?_)
  · exact h _ j (1 + i) ⟨nI_add _ _, by omega, by omega, z⟩
  · refine h _ j (32 - j) ⟨?_, by omega, by omega, by omega⟩
    have e32 : nI (16 * j) + 32 = nI (16 * j + 32) := nI_add (16 * j) 32
    rw [e32, pk_sub (by omega)]
    congr 1
    omega
theorem pm_isV {post : Int32 → Prop} {c v : Nat} (hv : v < c) (hc : c ≤ 40) (h : post 1) : wpX_isVersion post (nI c, f1, f2, f3, a1, a2, a3, a4, a5, a6, a7, a8) (nI v) :=
  br_f (nI_pos (by omega)) (br_f (nI_ge hv (by omega)) h)
theorem pm_isK {post : Int32 → Prop} {k : Nat} (hk : k < 32) (h : post 1) : wpX_isKey post () (nI k) :=
  br_f (nI_pos (by omega)) (br_f (nI_ge (b := 32) hk (by decide)) h)
theorem pm_isP {post : Int32 → Prop} {P : Int32} {a b : Nat} (hp : pm_pl P a b) (h : post 1) : wpX_isPlan post () P := by
  have e1 := pm_and15 hp
  have e2 := pm_shr4 hp
  obtain ⟨h1, h2, h3, h4⟩ := hp
  unfold wpX_isPlan
  refine nm_r e1 (br_f (by rw [h1]; exact nI_pos (by omega)) (br_f (nI_nlt (b := 1) h2 (by omega)) (br_f (nI_nlt (a := 8) h3 (by omega)) (br_f (by rw [h1]; exact nI_nlt (a := 511) (by omega) (by omega)) (br_f ?_ h)))))
  rw [e2, nI_add]
  exact nI_nlt (a := 32) h4 (by omega)
theorem pm_n40 {c : Nat} (h : c < 40) : ¬ nI c = 40 := fun z => absurd ((nI_eq (a := c) (b := 40) (by omega) (by omega)).mp z) (by omega)
theorem pm_init {post : St2 → Prop} {mc ms : Nat} (h1 : 8 ≤ mc) (h2 : 2712 ≤ ms)
    (h : ∀ b1 b2 b3 b4 b5 b6 b7 b8, pm_V 1 b1 b2 b3 → pm_H 1 0 (fun _ => []) (nI 0) b4 b5 b6 b7 b8 → post (nI 1, nI 0, nI 0, nI 0, b1, b2, b3, b4, b5, b6, b7, b8)) : wpX_init post mc ms (0, 0, 0, 0) := by
  unfold wpX_init
  refine ⟨by omega, by omega, by omega, by omega, by omega, by omega, by omega, by omega, by omega, by omega, by omega, by omega, by omega, by omega, by omega, by omega, nm_e (nm_e (nm_e ?_))⟩
  refine pk_loop (fun n i s => wX_init_102 post mc ms 8 2712 1 0 0 0 n (nI i) (upd (fun _ => 0) 0 (-1)) (vp_updL (fun _ => 0) 0 1152921504606846976) (upd (fun _ => 0) 0 (-1)) s (fun _ => 0) (fun _ => 0) (fun _ => 0) (fun _ => 0)) (fun i s => ∀ j, j < i → s j = -1) 32 0 (fun _ => 0) (by omega) (fun j hj => absurd hj (by omega)) ?_ ?_
  · intro n s hI
    refine pk_le 32 32 (fun _ => h _ _ _ _ _ _ _ _ ?_ ?_) (fun z => absurd z (by omega))
    · refine ⟨fun j j1 j2 => absurd j1 (by omega), fun j j2 => ?_, fun j j2 => ?_⟩
      · have e : j = 0 := by omega
        rw [e]
        rfl
      · have e : j = 0 := by omega
        rw [e]
        rfl
    · exact ⟨0, fun _ => 0, by omega, rfl, fun j hj => ⟨[], hI j hj, List.nodup_nil, rfl⟩⟩
  · intro n i s hi hI hw
    refine pk_le 32 i (fun z => absurd z (by omega)) (fun _ => ⟨pk_in i 32 hi, nm_e (nm_r (nI_1 i) (hw _ (fun j hj => ?_)))⟩)
    rw [nI_clamp (show i < 2 ^ 31 by omega)]
    by_cases e : j = i
    · rw [e, pk_us]
    · rw [pk_un e]
      exact hI j (by omega)
def pm_mix (C D : Nat → List pm_E) (a j : Nat) : Nat → List pm_E := fun k => if a ≤ k ∧ k < a + j then D k else C k
theorem pm_mix_0 {C D : Nat → List pm_E} {a k : Nat} : C k = pm_mix C D a 0 k := (if_neg (by omega)).symm
theorem pm_mix_at {C D : Nat → List pm_E} {a j : Nat} : pm_mix C D a j (a + j) = C (a + j) := if_neg (by omega)
theorem pm_mix_s {C D : Nat → List pm_E} {a j k : Nat} : pm_up (pm_mix C D a j) (a + j) (D (a + j)) k = pm_mix C D a (j + 1) k := by
  unfold pm_up pm_mix
  by_cases e : k = a + j
  · rw [if_pos e, e, if_pos (by omega)]
  · rw [if_neg e]
    by_cases e2 : a ≤ k ∧ k < a + j
    · rw [if_pos e2, if_pos (by omega)]
    · rw [if_neg e2, if_neg (by omega)]
theorem pm_fill47 {post : Int32 → St2 → Prop} {c N made a b : Nat} {aft : Option Nat} {C D : Nat → List pm_E} {P val step : Int32} (hV : pm_V c a1 a2 a3) (hp : pm_pl P a b) (hc : c ≤ 6) (hN : N + 2 * b ≤ 640) (hm : made < c)
    (ha : pm_fol c made = pm_oi aft) (hac : ∀ a, aft = some a → a < c) (hW : ∀ i, i < b → pm_W made aft (C (a + i)) (some (val + nI i * step)) (D (a + i)))
    (h : ∀ f1' b4 b5 b6 b7 b8, pm_H c (N + 2 * b) (pm_mix C D a b) f1' b4 b5 b6 b7 b8 → post (nI made) (f0, f1', f2, f3, a1, a2, a3, b4, b5, b6, b7, b8)) :
    ∀ m j, j + m = b → ∀ f1 a4 a5 a6 a7 a8, pm_H c (N + 2 * j) (pm_mix C D a j) f1 a4 a5 a6 a7 a8 → wX_fill_47 post P val step (nI made) (nI a) (m + 1) (nI j) f0 f1 f2 f3 a1 a2 a3 a4 a5 a6 a7 a8 := by
  have e15 := pm_and15 hp
  have hb8 := hp.2.2.1
  have hab := hp.2.2.2
  intro m
  induction m with
  | zero =>
    intro j hj f1 a4 a5 a6 a7 a8 hH
    have e : j = b := by omega
    subst e
    exact pk_le j j (fun _ => h _ _ _ _ _ _ hH) (fun z => absurd z (by omega)) (hx := e15)
  | succ m ih =>
    intro j hj f1 a4 a5 a6 a7 a8 hH
    refine pk_le b j (fun z => absurd z (by omega)) (fun _ => ?_) (hx := e15)
    rw [nI_add]
    refine pm_write hV hH hc (by omega) hm (by omega) ha hac (q := some (val + nI j * step)) ⟨rfl, rfl⟩ (by rw [pm_mix_at]; exact hW j (by omega)) (fun f1' b4 b5 b6 b7 b8 hH' => ?_)
    exact nm_r (nI_1 j) (ih (j + 1) (by omega) _ _ _ _ _ _ (pm_H_eq (pm_H_mono hH' (Nat.le_refl c) (by omega)) (fun k _ => pm_mix_s)))
theorem pm_fill {post : Int32 → St2 → Prop} {c N v a b : Nat} {aft : Option Nat} {C D : Nat → List pm_E} {P val step : Int32} (hV : pm_V c a1 a2 a3) (hH : pm_H c N C f1 a4 a5 a6 a7 a8) (hb : pm_ob v c) (hp : pm_pl P a b) (hN : N + 16 ≤ 640)
    (ha : pm_fol (c + 1) c = pm_oi aft) (hac : ∀ a, aft = some a → a < c + 1) (hW : ∀ i, i < b → pm_W c aft (C (a + i)) (some (val + nI i * step)) (D (a + i)))
    (h : ∀ f1' b1 b2 b3 b4 b5 b6 b7 b8, pm_V (c + 1) b1 b2 b3 → pm_H (c + 1) (N + 16) (pm_mix C D a b) f1' b4 b5 b6 b7 b8 → post (nI c) (nI (c + 1), f1', f2, f3, b1, b2, b3, b4, b5, b6, b7, b8)) :
    wpX_fill post (nI c, f1, f2, f3, a1, a2, a3, a4, a5, a6, a7, a8) (nI v) P val step := by
  have hb8 := hp.2.2.1
  have hc6 := hb.2.1
  have hvc := hb.2.2.1
  unfold wpX_fill
  refine pm_isV hvc (by omega) (br_f (by decide) (pm_isP hp (br_f (by decide) (br_f (pm_n40 (by omega)) (pm_open hV hb (fun b1 b2 b3 hV' => nm_r (pm_shr4 hp) ⟨b + 1, ?_⟩))))))
  exact pm_fill47 (N := N) hV' hp (by omega) (by omega) (by omega) ha hac hW (fun f1' b4 b5 b6 b7 b8 hH' => h _ _ _ _ _ _ _ _ _ hV' (pm_H_mono hH' (Nat.le_refl _) (by omega))) b 0 (by omega) _ _ _ _ _ _ (pm_H_eq (pm_H_mono hH (by omega) (by omega)) (fun k _ => pm_mix_0))
theorem pm_graft55 {post : Int32 → St2 → Prop} {c N made w a b : Nat} {aft : Option Nat} {C D : Nat → List pm_E} {P : Int32} (hV : pm_V c a1 a2 a3) (hp : pm_pl P a b) (hc : c ≤ 6) (hN : N + 2 * b ≤ 640) (hm : made < c) (hw : w < c)
    (ha : pm_fol c made = pm_oi aft) (hac : ∀ a, aft = some a → a < c) (hW : ∀ i, i < b → pm_W made aft (C (a + i)) (pm_lk w none (C (a + i))) (D (a + i)))
    (h : ∀ f1' f2' f3' b4 b5 b6 b7 b8, pm_H c (N + 2 * b) (pm_mix C D a b) f1' b4 b5 b6 b7 b8 → post (nI made) (f0, f1', f2', f3', a1, a2, a3, b4, b5, b6, b7, b8)) :
    ∀ m j, j + m = b → ∀ f1 f2 f3 a4 a5 a6 a7 a8, pm_H c (N + 2 * j) (pm_mix C D a j) f1 a4 a5 a6 a7 a8 → wX_graft_55 post (nI w) P (nI made) (nI a) (m + 1) (nI j) f0 f1 f2 f3 a1 a2 a3 a4 a5 a6 a7 a8 := by
  have e15 := pm_and15 hp
  have hb8 := hp.2.2.1
  have hab := hp.2.2.2
  intro m
  induction m with
  | zero =>
    intro j hj f1 f2 f3 a4 a5 a6 a7 a8 hH
    have e : j = b := by omega
    subst e
    exact pk_le j j (fun _ => h _ _ _ _ _ _ _ _ hH) (fun z => absurd z (by omega)) (hx := e15)
  | succ m ih =>
    intro j hj f1 f2 f3 a4 a5 a6 a7 a8 hH
    refine pk_le b j (fun z => absurd z (by omega)) (fun _ => ?_) (hx := e15)
    rw [nI_add]
    refine pm_look hV hH hc (by omega) hw (by omega) ?_
    refine pm_write hV hH hc (by omega) hm (by omega) ha hac (pm_entS _) (by rw [pm_mix_at]; exact hW j (by omega)) (fun f1' b4 b5 b6 b7 b8 hH' => ?_)
    exact nm_r (nI_1 j) (ih (j + 1) (by omega) _ _ _ _ _ _ _ _ (pm_H_eq (pm_H_mono hH' (Nat.le_refl c) (by omega)) (fun k _ => pm_mix_s)))
theorem pm_graft {post : Int32 → St2 → Prop} {c N v w a b : Nat} {aft : Option Nat} {C D : Nat → List pm_E} {P : Int32} (hV : pm_V c a1 a2 a3) (hH : pm_H c N C f1 a4 a5 a6 a7 a8) (hb : pm_ob v c) (hw : w < c) (hp : pm_pl P a b) (hN : N + 16 ≤ 640)
    (ha : pm_fol (c + 1) c = pm_oi aft) (hac : ∀ a, aft = some a → a < c + 1) (hW : ∀ i, i < b → pm_W c aft (C (a + i)) (pm_lk w none (C (a + i))) (D (a + i)))
    (h : ∀ f1' f2' f3' b1 b2 b3 b4 b5 b6 b7 b8, pm_V (c + 1) b1 b2 b3 → pm_H (c + 1) (N + 16) (pm_mix C D a b) f1' b4 b5 b6 b7 b8 → post (nI c) (nI (c + 1), f1', f2', f3', b1, b2, b3, b4, b5, b6, b7, b8)) :
    wpX_graft post (nI c, f1, f2, f3, a1, a2, a3, a4, a5, a6, a7, a8) (nI v) (nI w) P := by
  have hb8 := hp.2.2.1
  have hc6 := hb.2.1
  have hvc := hb.2.2.1
  unfold wpX_graft
  refine pm_isV hvc (by omega) (br_f (by decide) (pm_isV hw (by omega) (br_f (by decide) (pm_isP hp (br_f (by decide) (br_f (pm_n40 (by omega)) (pm_open hV hb (fun b1 b2 b3 hV' => nm_r (pm_shr4 hp) ⟨b + 1, ?_⟩))))))))
  exact pm_graft55 (N := N) hV' hp (by omega) (by omega) (by omega) (by omega) ha hac hW (fun f1' f2' f3' b4 b5 b6 b7 b8 hH' => h _ _ _ _ _ _ _ _ _ _ _ hV' (pm_H_mono hH' (Nat.le_refl _) (by omega))) b 0 (by omega) _ _ _ _ _ _ _ _ (pm_H_eq (pm_H_mono hH (by omega) (by omega)) (fun k _ => pm_mix_0))
theorem pm_remove {post : Int32 → St2 → Prop} {c N v k : Nat} {aft : Option Nat} {C : Nat → List pm_E} {d' : List pm_E} (hV : pm_V c a1 a2 a3) (hH : pm_H c N C f1 a4 a5 a6 a7 a8) (hb : pm_ob v c) (hk : k < 32) (hN : N + 2 ≤ 640)
    (ha : pm_fol (c + 1) c = pm_oi aft) (hac : ∀ a, aft = some a → a < c + 1) (hW : pm_W c aft (C k) none d')
    (h : ∀ f1' b1 b2 b3 b4 b5 b6 b7 b8, pm_V (c + 1) b1 b2 b3 → pm_H (c + 1) (N + 2) (pm_up C k d') f1' b4 b5 b6 b7 b8 → post (nI c) (nI (c + 1), f1', f2, f3, b1, b2, b3, b4, b5, b6, b7, b8)) :
    wpX_remove post (nI c, f1, f2, f3, a1, a2, a3, a4, a5, a6, a7, a8) (nI v) (nI k) := by
  have hc6 := hb.2.1
  have hvc := hb.2.2.1
  unfold wpX_remove
  refine pm_isV hvc (by omega) (br_f (by decide) (pm_isK hk (br_f (by decide) (br_f (pm_n40 (by omega)) (pm_open hV hb (fun b1 b2 b3 hV' => ?_))))))
  exact pm_write hV' (pm_H_mono hH (Nat.le_succ c) (Nat.le_refl N)) (by omega) (by omega) (by omega) hk ha hac (q := none) rfl hW (fun f1' b4 b5 b6 b7 b8 hH' => h _ _ _ _ _ _ _ _ _ hV' hH')
end
/-- the lists of the law's map: does the key lie in p, q, r, is it the removed key -/
def pm_L2 (ip iq : Bool) (x1 x2 : Option Int32) : List pm_E := (if ip then [(1, x1)] else []) ++ (if iq then [(2, x2)] else [])
def pm_L5 (ip iq ir ik : Bool) (x1 x2 x3 : Option Int32) : List pm_E :=
  (if iq then [(3, x3)] else []) ++ ((if ir then [(4, if iq then x2 else if ip then x1 else none)] else []) ++ ((if ik then [(5, none)] else []) ++ ((if ip then [(1, x1)] else if iq || ir || ik then [(1, none)] else []) ++ (if iq then [(2, x2)] else []))))
def pm_hd (made : Nat) : List pm_E → Bool
  | [] => true
  | e :: _ => decide (pm_rk made < pm_rk e.1)
theorem pm_Wmk {made : Nat} {aft : Option Nat} {d d' : List pm_E} {q : Option Int32} (c1 c2 : List pm_E) (h0 : d = c1 ++ c2) (h1 : (c1.all fun e => decide (pm_rk e.1 ≤ pm_rk made) && decide (e.1 ≠ made)) = true)
    (h2 : pm_hd made c2 = true) (h3 : d' = c1 ++ (made, q) :: pm_tl aft (pm_lk made none c1) c2) : pm_W made aft d q d' := by
  refine ⟨c1, c2, h0, fun e he => ?_, fun e l hl => ?_, h3⟩
  · have := List.all_eq_true.mp h1 e he
    rw [Bool.and_eq_true, decide_eq_true_eq, decide_eq_true_eq] at this
    exact this
  · rw [hl] at h2
    exact of_decide_eq_true h2
theorem pm_W1 (x1 x2 : Option Int32) : pm_W 1 none [] x1 (pm_L2 true false x1 x2) := pm_Wmk [] [] rfl rfl rfl rfl
theorem pm_W2 (ip : Bool) (x1 x2 : Option Int32) : pm_W 2 none (pm_L2 ip false x1 x2) x2 (pm_L2 ip true x1 x2) := by
  cases ip
  · exact pm_Wmk [] [] rfl rfl rfl rfl
  · exact pm_Wmk [(1, x1)] [] rfl rfl rfl rfl
theorem pm_W3 (ip : Bool) (x1 x2 x3 : Option Int32) : pm_W 3 (some 1) (pm_L2 ip true x1 x2) x3 (pm_L5 ip true false false x1 x2 x3) := by
  cases ip
  · exact pm_Wmk [] [(2, x2)] rfl rfl rfl rfl
  · exact pm_Wmk [] [(1, x1), (2, x2)] rfl rfl rfl rfl
theorem pm_W4 (ip iq : Bool) (x1 x2 x3 : Option Int32) : pm_W 4 (some 1) (pm_L5 ip iq false false x1 x2 x3) (pm_lk 2 none (pm_L5 ip iq false false x1 x2 x3)) (pm_L5 ip iq true false x1 x2 x3) := by
  cases ip <;> cases iq
  · exact pm_Wmk [] [] rfl rfl rfl rfl
  · exact pm_Wmk [(3, x3)] [(1, none), (2, x2)] rfl rfl rfl rfl
  · exact pm_Wmk [] [(1, x1)] rfl rfl rfl rfl
  · exact pm_Wmk [(3, x3)] [(1, x1), (2, x2)] rfl rfl rfl rfl
theorem pm_W5 (ip iq ir : Bool) (x1 x2 x3 : Option Int32) : pm_W 5 (some 1) (pm_L5 ip iq ir false x1 x2 x3) none (pm_L5 ip iq ir true x1 x2 x3) := by
  cases ip <;> cases iq <;> cases ir
  · exact pm_Wmk [] [] rfl rfl rfl rfl
  · exact pm_Wmk [(4, none)] [(1, none)] rfl rfl rfl rfl
  · exact pm_Wmk [(3, x3)] [(1, none), (2, x2)] rfl rfl rfl rfl
  · exact pm_Wmk [(3, x3), (4, x2)] [(1, none), (2, x2)] rfl rfl rfl rfl
  · exact pm_Wmk [] [(1, x1)] rfl rfl rfl rfl
  · exact pm_Wmk [(4, x1)] [(1, x1)] rfl rfl rfl rfl
  · exact pm_Wmk [(3, x3)] [(1, x1), (2, x2)] rfl rfl rfl rfl
  · exact pm_Wmk [(3, x3), (4, x2)] [(1, x1), (2, x2)] rfl rfl rfl rfl
section
variable (ip iq ir ik : Bool) (x1 x2 x3 : Option Int32)
theorem pm_r0 : pm_lk 0 none (pm_L5 ip iq ir ik x1 x2 x3) = none := by
  cases ip <;> cases iq <;> cases ir <;> cases ik <;> rfl
theorem pm_r1 : pm_lk 1 none (pm_L5 ip iq ir ik x1 x2 x3) = if ip then x1 else none := by
  cases ip <;> cases iq <;> cases ir <;> cases ik <;> rfl
theorem pm_r2 : pm_lk 2 none (pm_L5 ip iq ir ik x1 x2 x3) = if iq then x2 else if ip then x1 else none := by
  cases ip <;> cases iq <;> cases ir <;> cases ik <;> rfl
theorem pm_r3 : pm_lk 3 none (pm_L5 ip iq ir ik x1 x2 x3) = if iq then x3 else none := by
  cases ip <;> cases iq <;> cases ir <;> cases ik <;> rfl
theorem pm_r4 : pm_lk 4 none (pm_L5 ip iq ir ik x1 x2 x3) = if ir then (if iq then x2 else if ip then x1 else none) else if iq then x3 else none := by
  cases ip <;> cases iq <;> cases ir <;> cases ik <;> rfl
theorem pm_r5 : pm_lk 5 none (pm_L5 ip iq ir ik x1 x2 x3) = if ik then none else if ir then (if iq then x2 else if ip then x1 else none) else if iq then x3 else none := by
  cases ip <;> cases iq <;> cases ir <;> cases ik <;> rfl
end
end
section
/-- what the version v sees of the key k -/
def pm_f (C : Nat → List pm_E) (v k : Nat) : Option Int32 := pm_lk v none (C k)
def pm_R (C : Nat → List pm_E) (f1 : Int32) (a1 : Nat → Int32) (a2 : Nat → Int64) (a3 a4 a5 a6 a7 a8 : Nat → Int32) : Prop := pm_V 6 a1 a2 a3 ∧ pm_H 6 640 C f1 a4 a5 a6 a7 a8
def pm_o1 : Option Int32 → Nat
  | none => 0
  | some _ => 1
theorem pm_thN (q : Option Int32) : pm_th q = nI (pm_o1 q) := by
  cases q <;> rfl
/-- how many keys below k are there -/
def pm_cn (F : Nat → Option Int32) : Nat → Nat
  | 0 => 0
  | k + 1 => pm_cn F k + pm_o1 (F k)
theorem pm_cn_le (F : Nat → Option Int32) : ∀ k, pm_cn F k ≤ k := by
  intro k
  induction k with
  | zero => exact Nat.le_refl 0
  | succ k ih =>
    show pm_cn F k + pm_o1 (F k) ≤ k + 1
    have : pm_o1 (F k) ≤ 1 := by cases F k <;> simp [pm_o1]
    omega
theorem pm_cn_mono (F : Nat → Option Int32) (k : Nat) : ∀ d, pm_cn F k ≤ pm_cn F (k + d) := by
  intro d
  induction d with
  | zero => exact Nat.le_refl _
  | succ d ih =>
    show pm_cn F k ≤ pm_cn F (k + d) + pm_o1 (F (k + d))
    omega
def pm_sm (F : Nat → Option Int32) : Nat → Int32
  | 0 => 0
  | k + 1 => pm_sm F k + pm_vl (F k)
def pm_d1 (q r : Option Int32) : Nat := if q = r then 0 else 1
def pm_dn (F G : Nat → Option Int32) : Nat → Nat
  | 0 => 0
  | k + 1 => pm_dn F G k + pm_d1 (F k) (G k)
def pm_pi (q : Option Int32) (x y : Int32) : Int32 := match q with
  | none => y
  | some _ => x
/-- the last key below k that is there, or -2 -/
def pm_pv (F : Nat → Option Int32) : Nat → Int32
  | 0 => -2
  | k + 1 => pm_pi (F k) (nI k) (pm_pv F k)
def pm_la (F : Nat → Option Int32) : Nat → Int32
  | 0 => -1
  | k + 1 => pm_pi (F k) (nI k) (pm_la F k)
theorem pm_lapv (F : Nat → Option Int32) : ∀ k, k ≤ 32 → (0 ≤ pm_la F k ∧ pm_pv F k = pm_la F k) ∨ (¬ 0 ≤ pm_la F k ∧ pm_pv F k = -2) := by
  intro k
  induction k with
  | zero =>
    intro _
    exact Or.inr ⟨by show ¬ (0 : Int32) ≤ -1; decide, rfl⟩
  | succ k ih =>
    intro hk
    show (0 ≤ pm_pi (F k) (nI k) (pm_la F k) ∧ pm_pi (F k) (nI k) (pm_pv F k) = pm_pi (F k) (nI k) (pm_la F k)) ∨ (¬ 0 ≤ pm_pi (F k) (nI k) (pm_la F k) ∧ pm_pi (F k) (nI k) (pm_pv F k) = -2)
    cases F k with
    | none => exact ih (by omega)
    | some x => exact Or.inl ⟨nI_pos' (by omega), rfl⟩
section
variable {f0 f1 f2 f3 : Int32} {a1 : Nat → Int32} {a2 : Nat → Int64} {a3 a4 a5 a6 a7 a8 : Nat → Int32} {C : Nat → List pm_E}
theorem pm_lo {post : St2 → Prop} {v k : Nat} (hR : pm_R C f1 a1 a2 a3 a4 a5 a6 a7 a8) (hv : v < 6) (hk : k < 32) (h : post (f0, f1, pm_th (pm_f C v k), pm_vl (pm_f C v k), a1, a2, a3, a4, a5, a6, a7, a8)) : wpX_look post (f0, f1, f2, f3, a1, a2, a3, a4, a5, a6, a7, a8) (nI v) (nI k) :=
  pm_look hR.1 hR.2 (by omega) (by omega) hv hk h
theorem pm_has {post : Int32 → St2 → Prop} {v k : Nat} (hR : pm_R C f1 a1 a2 a3 a4 a5 a6 a7 a8) (hv : v < 6) (hk : k < 32) (h : ∀ g2 g3, post (pm_th (pm_f C v k)) (nI 6, f1, g2, g3, a1, a2, a3, a4, a5, a6, a7, a8)) : wpX_has post (nI 6, f1, f2, f3, a1, a2, a3, a4, a5, a6, a7, a8) (nI v) (nI k) := by
  unfold wpX_has
  refine pm_isV hv (by omega) (br_f (by decide) (pm_isK hk (br_f (by decide) (pm_lo hR hv hk ?_))))
  have h' := h (pm_th (pm_f C v k)) (pm_vl (pm_f C v k))
  cases e : pm_f C v k with
  | none =>
    rw [e] at h'
    exact br_t rfl h'
  | some x =>
    rw [e] at h'
    exact br_f (by show ¬ (1 : Int32) = 0; decide) h'
theorem pm_get {post : Int32 → St2 → Prop} {v k : Nat} (hR : pm_R C f1 a1 a2 a3 a4 a5 a6 a7 a8) (hv : v < 6) (hk : k < 32) (h : ∀ g2 g3, post (pm_vl (pm_f C v k)) (nI 6, f1, g2, g3, a1, a2, a3, a4, a5, a6, a7, a8)) : wpX_get post (nI 6, f1, f2, f3, a1, a2, a3, a4, a5, a6, a7, a8) (nI v) (nI k) := by
  unfold wpX_get
  refine pm_isV hv (by omega) (br_f (by decide) (pm_isK hk (br_f (by decide) (pm_lo hR hv hk ?_))))
  have h' := h (pm_th (pm_f C v k)) (pm_vl (pm_f C v k))
  cases e : pm_f C v k with
  | none =>
    rw [e] at h'
    exact br_t rfl h'
  | some x =>
    rw [e] at h'
    exact br_f (by show ¬ (1 : Int32) = 0; decide) h'
theorem pm_size14 {post : Int32 → St2 → Prop} {v : Nat} (hR : pm_R C f1 a1 a2 a3 a4 a5 a6 a7 a8) (hv : v < 6) (h : ∀ g2 g3, post (nI (pm_cn (pm_f C v) 32)) (nI 6, f1, g2, g3, a1, a2, a3, a4, a5, a6, a7, a8)) :
    ∀ m k, k + m = 32 → ∀ f2 f3, wX_size_14 post (nI v) (m + 1) (nI (pm_cn (pm_f C v) k)) (nI k) (nI 6) f1 f2 f3 a1 a2 a3 a4 a5 a6 a7 a8 := by
  intro m
  induction m with
  | zero =>
    intro k hk f2 f3
    have e : k = 32 := by omega
    subst e
    exact pk_le 32 32 (fun _ => h _ _) (fun z => absurd z (by omega))
  | succ m ih =>
    intro k hk f2 f3
    refine pk_le 32 k (fun z => absurd z (by omega)) (fun _ => pm_lo hR hv (by omega) ?_)
    have ih' := ih (k + 1) (by omega) (pm_th (pm_f C v k)) (pm_vl (pm_f C v k))
    have e1 : pm_cn (pm_f C v) (k + 1) = pm_cn (pm_f C v) k + pm_o1 (pm_f C v k) := rfl
    rw [e1] at ih'
    cases e : pm_f C v k with
    | none =>
      rw [e] at ih'
      exact br_t rfl (nm_r (nI_add _ 0) (nm_r (nI_1 k) ih'))
    | some x =>
      rw [e] at ih'
      exact br_f (by show ¬ (1 : Int32) = 0; decide) (nm_r (nI_1 _) (nm_r (nI_1 k) ih'))
theorem pm_size {post : Int32 → St2 → Prop} {v : Nat} (hR : pm_R C f1 a1 a2 a3 a4 a5 a6 a7 a8) (hv : v < 6) (h : ∀ g2 g3, post (nI (pm_cn (pm_f C v) 32)) (nI 6, f1, g2, g3, a1, a2, a3, a4, a5, a6, a7, a8)) :
    wpX_size post (nI 6, f1, f2, f3, a1, a2, a3, a4, a5, a6, a7, a8) (nI v) := by
  unfold wpX_size
  exact pm_isV hv (by omega) (br_f (by decide) ⟨32 + 1, pm_size14 hR hv h 32 0 (by omega) f2 f3⟩)
theorem pm_sum38 {post : Int32 → St2 → Prop} {v : Nat} (hR : pm_R C f1 a1 a2 a3 a4 a5 a6 a7 a8) (hv : v < 6) (h : ∀ g2 g3, post (pm_sm (pm_f C v) 32) (nI 6, f1, g2, g3, a1, a2, a3, a4, a5, a6, a7, a8)) :
    ∀ m k, k + m = 32 → ∀ f2 f3, wX_sum_38 post (nI v) (nI 31) (m + 1) (pm_sm (pm_f C v) k) (nI k) (nI 6) f1 f2 f3 a1 a2 a3 a4 a5 a6 a7 a8 := by
  intro m
  induction m with
  | zero =>
    intro k hk f2 f3
    have e : k = 32 := by omega
    subst e
    exact pk_lt 31 32 (fun _ => h _ _) (fun z => absurd z (by omega))
  | succ m ih =>
    intro k hk f2 f3
    refine pk_lt 31 k (fun z => absurd z (by omega)) (fun _ => pm_lo hR hv (by omega) ?_)
    have ih' := ih (k + 1) (by omega) (pm_th (pm_f C v k)) (pm_vl (pm_f C v k))
    have e1 : pm_sm (pm_f C v) (k + 1) = pm_sm (pm_f C v) k + pm_vl (pm_f C v k) := rfl
    rw [e1] at ih'
    cases e : pm_f C v k with
    | none =>
      rw [e] at ih'
      exact br_t rfl (nm_e (nm_r (nI_1 k) ih'))
    | some x =>
      rw [e] at ih'
      exact br_f (by show ¬ (1 : Int32) = 0; decide) (nm_e (nm_r (nI_1 k) ih'))
theorem pm_sum {post : Int32 → St2 → Prop} {v : Nat} (hR : pm_R C f1 a1 a2 a3 a4 a5 a6 a7 a8) (hv : v < 6) (h : ∀ g2 g3, post (pm_sm (pm_f C v) 32) (nI 6, f1, g2, g3, a1, a2, a3, a4, a5, a6, a7, a8)) :
    wpX_sum post (nI 6, f1, f2, f3, a1, a2, a3, a4, a5, a6, a7, a8) (nI v) (-5) 99 := by
  unfold wpX_sum
  refine pm_isV hv (by omega) (br_f (by decide) (br_f (by decide) ?_))
  unfold wX_sum_25
  exact br_f (by decide) ⟨32 + 1, pm_sum38 hR hv h 32 0 (by omega) f2 f3⟩
theorem pm_differ {post : Int32 → St2 → Prop} {v w k : Nat} (hR : pm_R C f1 a1 a2 a3 a4 a5 a6 a7 a8) (hv : v < 6) (hw : w < 6) (hk : k < 32) (h : ∀ g2 g3, post (nI (pm_d1 (pm_f C v k) (pm_f C w k))) (nI 6, f1, g2, g3, a1, a2, a3, a4, a5, a6, a7, a8)) :
    wpX_differ post (nI 6, f1, f2, f3, a1, a2, a3, a4, a5, a6, a7, a8) (nI v) (nI w) (nI k) := by
  unfold wpX_differ
  refine pm_lo hR hv hk (pm_lo hR hw hk ?_)
  have h' := h (pm_th (pm_f C w k)) (pm_vl (pm_f C w k))
  cases e1 : pm_f C v k with
  | none =>
    cases e2 : pm_f C w k with
    | none =>
      rw [e1, e2] at h'
      exact br_t rfl (br_t rfl h')
    | some y =>
      rw [e1, e2] at h'
      exact br_f (by show ¬ (0 : Int32) = 1; decide) h'
  | some x =>
    cases e2 : pm_f C w k with
    | none =>
      rw [e1, e2] at h'
      exact br_f (by show ¬ (1 : Int32) = 0; decide) h'
    | some y =>
      rw [e1, e2] at h'
      by_cases exy : x = y
      · have e3 : pm_d1 (some x) (some y) = 0 := if_pos (by rw [exy])
        rw [e3] at h'
        exact br_t rfl (br_t exy h')
      · have e3 : pm_d1 (some x) (some y) = 1 := if_neg (fun z => exy (Option.some.inj z))
        rw [e3] at h'
        exact br_t rfl (br_f exy h')
theorem pm_dif23 {post : Int32 → St2 → Prop} {v w : Nat} (hR : pm_R C f1 a1 a2 a3 a4 a5 a6 a7 a8) (hv : v < 6) (hw : w < 6) (h : ∀ g2 g3, post (nI (pm_dn (pm_f C v) (pm_f C w) 32)) (nI 6, f1, g2, g3, a1, a2, a3, a4, a5, a6, a7, a8)) :
    ∀ m k, k + m = 32 → ∀ f2 f3, wX_differing_23 post (nI v) (nI w) (m + 1) (nI (pm_dn (pm_f C v) (pm_f C w) k)) (nI k) (nI 6) f1 f2 f3 a1 a2 a3 a4 a5 a6 a7 a8 := by
  intro m
  induction m with
  | zero =>
    intro k hk f2 f3
    have e : k = 32 := by omega
    subst e
    exact pk_le 32 32 (fun _ => h _ _) (fun z => absurd z (by omega))
  | succ m ih =>
    intro k hk f2 f3
    refine pk_le 32 k (fun z => absurd z (by omega)) (fun _ => pm_differ hR hv hw (by omega) (fun g2 g3 => ?_))
    have ih' := ih (k + 1) (by omega) g2 g3
    have e1 : pm_dn (pm_f C v) (pm_f C w) (k + 1) = pm_dn (pm_f C v) (pm_f C w) k + pm_d1 (pm_f C v k) (pm_f C w k) := rfl
    rw [e1] at ih'
    by_cases e : pm_f C v k = pm_f C w k
    · have e3 : pm_d1 (pm_f C v k) (pm_f C w k) = 0 := if_pos e
      rw [e3] at ih' ⊢
      exact br_t rfl (nm_r (nI_add _ 0) (nm_r (nI_1 k) ih'))
    · have e3 : pm_d1 (pm_f C v k) (pm_f C w k) = 1 := if_neg e
      rw [e3] at ih' ⊢
      exact br_f (by decide) (nm_r (nI_1 _) (nm_r (nI_1 k) ih'))
theorem pm_differing {post : Int32 → St2 → Prop} {v w : Nat} (hR : pm_R C f1 a1 a2 a3 a4 a5 a6 a7 a8) (hv : v < 6) (hw : w < 6) (h : ∀ g2 g3, post (nI (pm_dn (pm_f C v) (pm_f C w) 32)) (nI 6, f1, g2, g3, a1, a2, a3, a4, a5, a6, a7, a8)) :
    wpX_differing post (nI 6, f1, f2, f3, a1, a2, a3, a4, a5, a6, a7, a8) (nI v) (nI w) := by
  unfold wpX_differing
  exact pm_isV hv (by omega) (br_f (by decide) (pm_isV hw (by omega) (br_f (by decide) ⟨32 + 1, pm_dif23 hR hv hw h 32 0 (by omega) f2 f3⟩)))
theorem pm_sel15 {post : Int32 → St2 → Prop} {v K : Nat} {y : Int32} (hR : pm_R C f1 a1 a2 a3 a4 a5 a6 a7 a8) (hv : v < 6) (hK : K < 32) (hy : pm_f C v K = some y) (h : ∀ g2 g3, post (nI K) (nI 6, f1, g2, g3, a1, a2, a3, a4, a5, a6, a7, a8)) :
    ∀ m k, k + m = K → ∀ f2 f3, wX_select_15 post (nI v) (m + 1) (nI (pm_cn (pm_f C v) K - pm_cn (pm_f C v) k)) (nI k) (nI 6) f1 f2 f3 a1 a2 a3 a4 a5 a6 a7 a8 := by
  intro m
  induction m with
  | zero =>
    intro k hk f2 f3
    have e : k = K := by omega
    subst e
    refine pk_le 32 k (fun z => absurd z (by omega)) (fun _ => pm_lo hR hv (by omega) ?_)
    rw [hy]
    exact br_f (by show ¬ (1 : Int32) = 0; decide) (br_t (by rw [Nat.sub_self]; rfl) (h _ _))
  | succ m ih =>
    intro k hk f2 f3
    refine pk_le 32 k (fun z => absurd z (by omega)) (fun _ => pm_lo hR hv (by omega) ?_)
    have ih' := ih (k + 1) (by omega) (pm_th (pm_f C v k)) (pm_vl (pm_f C v k))
    have e1 : pm_cn (pm_f C v) (k + 1) = pm_cn (pm_f C v) k + pm_o1 (pm_f C v k) := rfl
    have mono : pm_cn (pm_f C v) (k + 1) ≤ pm_cn (pm_f C v) K := by
      have := pm_cn_mono (pm_f C v) (k + 1) m
      rw [show k + 1 + m = K by omega] at this
      exact this
    have top := pm_cn_le (pm_f C v) K
    rw [e1] at ih' mono
    cases e : pm_f C v k with
    | none =>
      rw [e] at ih'
      exact br_t rfl (nm_r (nI_1 k) ih')
    | some x =>
      rw [e] at ih' mono
      have mono' : pm_cn (pm_f C v) k + 1 ≤ pm_cn (pm_f C v) K := mono
      refine br_f (by show ¬ (1 : Int32) = 0; decide) (br_f (nI_ne0 (by omega) (by omega)) (nm_r (sb_m1 (by omega)) (nm_r (nI_1 k) ?_)))
      rw [Nat.sub_sub]
      exact ih'
theorem pm_select {post : Int32 → St2 → Prop} {v K : Nat} {y : Int32} (hR : pm_R C f1 a1 a2 a3 a4 a5 a6 a7 a8) (hv : v < 6) (hK : K < 32) (hy : pm_f C v K = some y) (h : ∀ g2 g3, post (nI K) (nI 6, f1, g2, g3, a1, a2, a3, a4, a5, a6, a7, a8)) :
    wpX_select post (nI 6, f1, f2, f3, a1, a2, a3, a4, a5, a6, a7, a8) (nI v) (nI (pm_cn (pm_f C v) K)) := by
  unfold wpX_select
  exact pm_isV hv (by omega) (br_f (by decide) ⟨K + 1, pm_sel15 hR hv hK hy h K 0 (by omega) f2 f3⟩)
theorem pm_prev23 {post : Int32 → St2 → Prop} {v : Nat} (hR : pm_R C f1 a1 a2 a3 a4 a5 a6 a7 a8) (hv : v < 6) :
    ∀ k, k ≤ 32 → (∀ g2 g3, post (pm_pv (pm_f C v) k) (nI 6, f1, g2, g3, a1, a2, a3, a4, a5, a6, a7, a8)) → ∀ f2 f3, wX_previous_23 post (nI v) (k + 1) (nI k - 1) (nI 6) f1 f2 f3 a1 a2 a3 a4 a5 a6 a7 a8 := by
  intro k
  induction k with
  | zero =>
    intro _ h f2 f3
    exact br_t (by decide) (h _ _)
  | succ k ih =>
    intro hk h f2 f3
    rw [nI_pred]
    refine br_f (nI_pos (by omega)) (pm_lo hR hv (by omega) ?_)
    have e1 : pm_pv (pm_f C v) (k + 1) = pm_pi (pm_f C v k) (nI k) (pm_pv (pm_f C v) k) := rfl
    rw [e1] at h
    cases e : pm_f C v k with
    | none =>
      rw [e] at h
      exact br_t rfl (nm_r (e' := nI k - 1) (by rw [Int32.sub_eq_add_neg]) (ih (by omega) h _ _))
    | some x =>
      rw [e] at h
      exact br_f (by show ¬ (1 : Int32) = 0; decide) (h _ _)
theorem pm_previous {post : Int32 → St2 → Prop} {v k : Nat} (hR : pm_R C f1 a1 a2 a3 a4 a5 a6 a7 a8) (hv : v < 6) (hk : k < 32) (h : ∀ g2 g3, post (pm_pv (pm_f C v) k) (nI 6, f1, g2, g3, a1, a2, a3, a4, a5, a6, a7, a8)) :
    wpX_previous post (nI 6, f1, f2, f3, a1, a2, a3, a4, a5, a6, a7, a8) (nI v) (nI k - 1) := by
  unfold wpX_previous
  refine pm_isV hv (by omega) (br_f (by decide) (br_t ?_ ⟨k + 1, pm_prev23 hR hv k (by omega) h f2 f3⟩))
  cases k with
  | zero => decide
  | succ k =>
    rw [nI_pred]
    exact nI_lt (b := 32) (by omega) (by omega)
-- spread
theorem pm_lst2 : ∀ (l1 l2 : List pm_P) (x : Int32), pm_lst x (l1 ++ l2) = pm_lst (pm_lst x l1) l2 := by
  intro l1
  induction l1 with
  | nil => intro l2 x; exact rfl
  | cons p l ih => intro l2 x; exact ih l2 _
theorem pm_advG {post : Int32 → Prop} {c n v k : Nat} {o : Nat → Nat} (hV : pm_V c a1 a2 a3) (hc : c ≤ 6) (hn : n ≤ 640) (hv : v < c) (hk : k < 32) {l1 m1 m2 : List pm_P} (h : pm_c c n o k a5 a6 a7 a8 (a4 k) (l1 ++ (m1 ++ m2)))
    (hp : ∀ p, p ∈ m1 → pm_rk p.2.1 ≤ pm_rk v) (hq : ∀ p l, m2 = p :: l → pm_rk v < pm_rk p.2.1) (hpost : post (pm_lst (-1) (l1 ++ m1))) : wpX_advance post (f0, f1, f2, f3, a1, a2, a3, a4, a5, a6, a7, a8) (nI k) (pm_lst (-1) l1) (nI v) := by
  rcases pm_snoc l1 with z | ⟨l1', p, z⟩
  · subst z
    exact pm_adv (l1 := m1) (l2 := m2) hV hc hn hv hk h hp hq hpost
  · subst z
    rw [pm_lst2, pm_lst_app] at hpost
    rw [pm_lst_app]
    rw [List.append_assoc] at h
    have g := (pm_c_mem _ _ h p (List.mem_append_right _ List.mem_cons_self)).1
    exact pm_advF (l1 := m1) (l2 := m2) hV hc hn hv g (pm_c_tail l1' _ h) hp hq hpost
theorem pm_spN {post : Int32 → Prop} {n' v k nn : Nat} {o : Nat → Nat} {l : List pm_P} {x2 : Int32} (hV : pm_V 6 a1 a2 a3) (hn : n' ≤ 640) (hv : v < 6) (hk : k < 32) (hch : pm_c 6 n' o k a5 a6 a7 a8 (a4 k) l) (hl : l.map Prod.snd = C k)
    (h : ∀ l1 l2, l = l1 ++ l2 → (∀ p, p ∈ l1 → pm_rk p.2.1 ≤ pm_rk v) → wX_spread_16 post (nI k) f0 f1 f2 f3 a1 a2 a3 a4 a5 a6 a7 a8 nn (x2 + pm_th (pm_f C v k)) (pm_lst (-1) l1) (pm_fol 6 v)) :
    ∀ l1 l2, l = l1 ++ l2 → (∀ p, p ∈ l1 → pm_rk p.2.1 ≤ pm_rk v) → wX_spread_16 post (nI k) f0 f1 f2 f3 a1 a2 a3 a4 a5 a6 a7 a8 (nn + 1) x2 (pm_lst (-1) l1) (nI v) := by
  intro l1 l2 e hp1
  obtain ⟨m1, m2, em, hm1, hm2⟩ := pm_split v l2
  subst em
  subst e
  have hall : ∀ p, p ∈ l1 ++ m1 → pm_rk p.2.1 ≤ pm_rk v := by
    intro p hp
    rcases List.mem_append.mp hp with z | z
    · exact hp1 p z
    · exact hm1 p z
  have h' := h (l1 ++ m1) m2 (by rw [List.append_assoc]) hall
  have cv : (nI v).toNatClampNeg = v := nI_clamp (by omega)
  have iv : vp_in (nI v) 40 := vp_in_nI (by omega) (by omega)
  have hstop : ∀ e l', m2.map Prod.snd = e :: l' → pm_rk v < pm_rk e.1 := by
    intro e l' he
    cases m2 with
    | nil => cases he
    | cons p l3 =>
      have := hm2 p l3 rfl
      rw [List.map_cons] at he
      injection he with he1 he2
      rw [← he1]
      exact this
  refine br_f (pm_m1 (by omega)) (pm_advG hV (by omega) hn hv hk hch hm1 hm2 ?_)
  have s51 : ∀ t x, pm_th (pm_f C v k) = t → wX_spread_16 post (nI k) f0 f1 f2 f3 a1 a2 a3 a4 a5 a6 a7 a8 nn (x2 + t) x (pm_fol 6 v) → wX_spread_51 post (wX_spread_16 post (nI k) f0 f1 f2 f3 a1 a2 a3 a4 a5 a6 a7 a8 nn) (nI k) x (nI v) t x2 f0 f1 f2 f3 a1 a2 a3 a4 a5 a6 a7 a8 := by
    intro t x et hx
    exact nm_e ⟨iv, nm_r (by rw [cv]; exact hV.2.2 v hv) hx⟩
  rcases pm_snoc (l1 ++ m1) with z | ⟨l1', p, z⟩
  · have hr : pm_f C v k = none := by
      show pm_lk v none (C k) = none
      rw [← hl, ← List.append_assoc, z]
      exact pm_lk_stop hstop
    rw [z] at h' ⊢
    rw [hr] at h' s51
    exact br_t rfl (s51 0 _ rfl h')
  · have hr : pm_f C v k = p.2.2 := by
      show pm_lk v none (C k) = p.2.2
      rw [← hl, ← List.append_assoc, z, List.map_append, pm_lk_pass (hall p (by rw [z]; exact List.mem_append_right _ List.mem_cons_self)) l1' none (fun r hr => hall r (by rw [z]; exact List.mem_append_left _ hr))]
      exact pm_lk_stop hstop
    obtain ⟨g1, g2, g3, g4, g5⟩ := pm_c_mem _ _ hch p (by rw [← List.append_assoc, z]; exact List.mem_append_left _ (List.mem_append_right _ List.mem_cons_self))
    have cp : (nI p.1).toNatClampNeg = p.1 := nI_clamp (by omega)
    have i_p : vp_in (nI p.1) 640 := vp_in_nI (by omega) (by omega)
    have el : pm_lst (-1) (l1 ++ m1) = nI p.1 := by rw [z]; exact pm_lst_app p l1' (-1)
    rw [el] at h' ⊢
    rw [hr] at h' s51
    cases hq : p.2.2 with
    | none =>
      rw [hq] at g5 h' s51
      have g6 : a7 p.1 = 0 := g5
      exact br_f (pm_m1 (by omega)) ⟨i_p, br_t (by rw [cp]; exact g6) (s51 0 _ rfl h')⟩
    | some y =>
      rw [hq] at g5 h' s51
      obtain ⟨g6, g7⟩ := g5
      exact br_f (pm_m1 (by omega)) ⟨i_p, br_f (by rw [cp, g6]; decide) (s51 1 _ rfl h')⟩
theorem pm_spread {post : Int32 → Prop} {k : Nat} (hR : pm_R C f1 a1 a2 a3 a4 a5 a6 a7 a8) (hk : k < 32) (h : post (0 + pm_th (pm_f C 0 k) + pm_th (pm_f C 3 k) + pm_th (pm_f C 4 k) + pm_th (pm_f C 5 k) + pm_th (pm_f C 1 k) + pm_th (pm_f C 2 k))) :
    wpX_spread post (f0, f1, f2, f3, a1, a2, a3, a4, a5, a6, a7, a8) (nI k) := by
  obtain ⟨hV, hH⟩ := hR
  obtain ⟨n, o, l, hn, hf, hG, hl⟩ := pm_HG hH hk
  have hch := hG.2.1
  unfold wpX_spread
  refine pm_isK hk (br_f (by decide) ⟨0 + 1 + 1 + 1 + 1 + 1 + 1 + 1, ?_⟩)
  have s2 := pm_spN (post := post) (f0 := f0) (f1 := f1) (f2 := f2) (f3 := f3) (v := 2) (nn := 0 + 1) (x2 := 0 + pm_th (pm_f C 0 k) + pm_th (pm_f C 3 k) + pm_th (pm_f C 4 k) + pm_th (pm_f C 5 k) + pm_th (pm_f C 1 k)) hV hn (by omega) hk hch hl (fun l1 l2 e hp => br_t rfl h)
  have s1 := pm_spN (post := post) (f0 := f0) (f1 := f1) (f2 := f2) (f3 := f3) (v := 1) (nn := 0 + 1 + 1) (x2 := 0 + pm_th (pm_f C 0 k) + pm_th (pm_f C 3 k) + pm_th (pm_f C 4 k) + pm_th (pm_f C 5 k)) hV hn (by omega) hk hch hl (fun l1 l2 e hp => s2 l1 l2 e (fun p z => Nat.le_trans (hp p z) (by decide)))
  have s5 := pm_spN (post := post) (f0 := f0) (f1 := f1) (f2 := f2) (f3 := f3) (v := 5) (nn := 0 + 1 + 1 + 1) (x2 := 0 + pm_th (pm_f C 0 k) + pm_th (pm_f C 3 k) + pm_th (pm_f C 4 k)) hV hn (by omega) hk hch hl (fun l1 l2 e hp => s1 l1 l2 e (fun p z => Nat.le_trans (hp p z) (by decide)))
  have s4 := pm_spN (post := post) (f0 := f0) (f1 := f1) (f2 := f2) (f3 := f3) (v := 4) (nn := 0 + 1 + 1 + 1 + 1) (x2 := 0 + pm_th (pm_f C 0 k) + pm_th (pm_f C 3 k)) hV hn (by omega) hk hch hl (fun l1 l2 e hp => s5 l1 l2 e (fun p z => Nat.le_trans (hp p z) (by decide)))
  have s3 := pm_spN (post := post) (f0 := f0) (f1 := f1) (f2 := f2) (f3 := f3) (v := 3) (nn := 0 + 1 + 1 + 1 + 1 + 1) (x2 := 0 + pm_th (pm_f C 0 k)) hV hn (by omega) hk hch hl (fun l1 l2 e hp => s4 l1 l2 e (fun p z => Nat.le_trans (hp p z) (by decide)))
  have s0 := pm_spN (post := post) (f0 := f0) (f1 := f1) (f2 := f2) (f3 := f3) (v := 0) (nn := 0 + 1 + 1 + 1 + 1 + 1 + 1) (x2 := 0) hV hn (by omega) hk hch hl (fun l1 l2 e hp => s3 l1 l2 e (fun p z => Nat.le_trans (hp p z) (by decide)))
  exact s0 [] l rfl (fun p z => by cases z)
-- the tree
def pm_an (v : Nat) : Nat → Nat → Bool
  | 0, w => decide (w = v)
  | m + 1, w => if w ≤ v then decide (w = v) else pm_an v m (pm_par w)
def pm_bi : Bool → Int32
  | false => 0
  | true => 1
theorem pm_parL : ∀ w, w < 6 → 0 < w → pm_par w < w := by decide
theorem pm_isA30 {post : Int32 → Prop} {v w : Nat} (hv : v < 6) (hw : w < 6) (h : post (pm_bi (decide (w = v)))) : wX_isAncestor_30 post (nI v) (nI w) f0 f1 f2 f3 a1 a2 a3 a4 a5 a6 a7 a8 := by
  unfold wX_isAncestor_30
  refine pk_eq w v (fun z => ?_) (fun z => ?_)
  · rw [decide_eq_true z] at h
    exact h
  · rw [decide_eq_false z] at h
    exact h
theorem pm_isA5 {post : Int32 → Prop} {v : Nat} (hV : pm_V 6 a1 a2 a3) (hv : v < 6) : ∀ m w j, w ≤ m → w < 6 → j + m < 40 → post (pm_bi (pm_an v m w)) → wX_isAncestor_5 post (nI v) f0 f1 f2 f3 a1 a2 a3 a4 a5 a6 a7 a8 (m + 1) (nI w) (nI j) := by
  intro m
  induction m with
  | zero =>
    intro w j hwm hw hj h
    exact pk_le 40 j (fun z => absurd z (by omega)) (fun _ => pk_le w v (fun _ => pm_isA30 hv hw h) (fun z => absurd z (by omega)))
  | succ m ih =>
    intro w j hwm hw hj h
    have e : pm_an v (m + 1) w = if w ≤ v then decide (w = v) else pm_an v m (pm_par w) := rfl
    rw [e] at h
    refine pk_le 40 j (fun z => absurd z (by omega)) (fun _ => pk_le w v (fun z => pm_isA30 hv hw (by rw [if_pos z] at h; exact h)) (fun z => ⟨pk_in w 40 (by omega), nm_r (e' := nI (pm_par w)) (by rw [nI_clamp (by omega)]; exact hV.1 w (by omega) hw) (nm_r (nI_1 j) ?_)⟩))
    have hlt := pm_parL w hw (by omega)
    rw [if_neg (by omega)] at h
    exact ih (pm_par w) (j + 1) (by omega) (by omega) (by omega) h
theorem pm_isA {post : Int32 → Prop} {v w : Nat} (b : Bool) (hV : pm_V 6 a1 a2 a3) (hv : v < 6) (hw : w < 6) (e : pm_an v 6 w = b) (h : post (pm_bi b)) : wpX_isAncestor post (f0, f1, f2, f3, a1, a2, a3, a4, a5, a6, a7, a8) (nI v) (nI w) :=
  ⟨6 + 1, pm_isA5 hV hv 6 w 0 (by omega) hw (by omega) (by rw [e]; exact h)⟩
theorem pm_fam1 {post : Int32 → Prop} {v w s n : Nat} (hV : pm_V 6 a1 a2 a3) (hv : v < 6) (hw : w < 6) (e : pm_an v 6 w = true) (h : wX_family_14 post (nI v) f0 f1 f2 f3 a1 a2 a3 a4 a5 a6 a7 a8 n (nI (s + 1)) (pm_fol 6 w)) :
    wX_family_14 post (nI v) f0 f1 f2 f3 a1 a2 a3 a4 a5 a6 a7 a8 (n + 1) (nI s) (nI w) :=
  br_f (pm_m1 (by omega)) (pm_isA true hV hv hw e (br_f (by decide) (nm_r (nI_1 s) ⟨pk_in w 40 (by omega), nm_r (by rw [nI_clamp (by omega)]; exact hV.2.2 w hw) h⟩)))
theorem pm_fam3 {post : Int32 → Prop} (hR : pm_R C f1 a1 a2 a3 a4 a5 a6 a7 a8) (h : post 3) : wpX_family post (nI 6, f1, f2, f3, a1, a2, a3, a4, a5, a6, a7, a8) (nI 3) := by
  have hV := hR.1
  unfold wpX_family
  refine pm_isV (by omega) (by omega) (br_f (by decide) ⟨0 + 1 + 1 + 1 + 1, ?_⟩)
  refine pm_fam1 (s := 0) hV (by omega) (by omega) (by decide) ?_
  refine pm_fam1 (s := 1) (w := 4) hV (by omega) (by omega) (by decide) ?_
  refine pm_fam1 (s := 2) (w := 5) hV (by omega) (by omega) (by decide) ?_
  exact br_f (by decide) (pm_isA (w := 1) false hV (by omega) (by omega) (by decide) (br_t rfl h))
theorem pm_fam0 {post : Int32 → Prop} (hR : pm_R C f1 a1 a2 a3 a4 a5 a6 a7 a8) (h : post 6) : wpX_family post (nI 6, f1, f2, f3, a1, a2, a3, a4, a5, a6, a7, a8) (nI 0) := by
  have hV := hR.1
  unfold wpX_family
  refine pm_isV (by omega) (by omega) (br_f (by decide) ⟨0 + 1 + 1 + 1 + 1 + 1 + 1 + 1, ?_⟩)
  refine pm_fam1 (s := 0) hV (by omega) (by omega) (by decide) ?_
  refine pm_fam1 (s := 1) (w := 3) hV (by omega) (by omega) (by decide) ?_
  refine pm_fam1 (s := 2) (w := 4) hV (by omega) (by omega) (by decide) ?_
  refine pm_fam1 (s := 3) (w := 5) hV (by omega) (by omega) (by decide) ?_
  refine pm_fam1 (s := 4) (w := 1) hV (by omega) (by omega) (by decide) ?_
  refine pm_fam1 (s := 5) (w := 2) hV (by omega) (by omega) (by decide) ?_
  exact br_t rfl h
theorem pm_meet1 {post : Int32 → Prop} {v w j n : Nat} (hV : pm_V 6 a1 a2 a3) (hv : v < 6) (h0 : 0 < v) (hw : w < 6) (hj : j < 40) (e : pm_an v 6 w = false) (h : wX_meet_23 post (nI w) f0 f1 f2 f3 a1 a2 a3 a4 a5 a6 a7 a8 n (nI (pm_par v)) (nI (j + 1))) :
    wX_meet_23 post (nI w) f0 f1 f2 f3 a1 a2 a3 a4 a5 a6 a7 a8 (n + 1) (nI v) (nI j) :=
  pk_le 40 j (fun z => absurd z (by omega)) (fun _ => pm_isA false hV hv hw e (br_t rfl ⟨pk_in v 40 (by omega), nm_r (by rw [nI_clamp (by omega)]; exact hV.1 v h0 hv) (nm_r (nI_1 j) h)⟩))
theorem pm_meet2 {post : Int32 → Prop} {v w j n : Nat} (hV : pm_V 6 a1 a2 a3) (hv : v < 6) (hw : w < 6) (hj : j < 40) (e : pm_an v 6 w = true) (h : post (nI v)) :
    wX_meet_23 post (nI w) f0 f1 f2 f3 a1 a2 a3 a4 a5 a6 a7 a8 (n + 1) (nI v) (nI j) :=
  pk_le 40 j (fun z => absurd z (by omega)) (fun _ => pm_isA true hV hv hw e (br_f (by decide) h))
theorem pm_meet25 {post : Int32 → Prop} (hR : pm_R C f1 a1 a2 a3 a4 a5 a6 a7 a8) (h : post 0) : wpX_meet post (nI 6, f1, f2, f3, a1, a2, a3, a4, a5, a6, a7, a8) (nI 2) (nI 5) := by
  have hV := hR.1
  unfold wpX_meet
  refine pm_isV (by omega) (by omega) (br_f (by decide) (pm_isV (by omega) (by omega) (br_f (by decide) ⟨0 + 1 + 1 + 1, ?_⟩)))
  refine pm_meet1 (j := 0) hV (by omega) (by omega) (by omega) (by omega) (by decide) ?_
  refine pm_meet1 (v := 1) hV (by omega) (by omega) (by omega) (by omega) (by decide) ?_
  exact pm_meet2 (v := 0) hV (by omega) (by omega) (by omega) (by decide) h
theorem pm_meet54 {post : Int32 → Prop} (hR : pm_R C f1 a1 a2 a3 a4 a5 a6 a7 a8) (h : post 4) : wpX_meet post (nI 6, f1, f2, f3, a1, a2, a3, a4, a5, a6, a7, a8) (nI 5) (nI 4) := by
  have hV := hR.1
  unfold wpX_meet
  refine pm_isV (by omega) (by omega) (br_f (by decide) (pm_isV (by omega) (by omega) (br_f (by decide) ⟨0 + 1 + 1, ?_⟩)))
  refine pm_meet1 (j := 0) hV (by omega) (by omega) (by omega) (by omega) (by decide) ?_
  exact pm_meet2 (v := 4) hV (by omega) (by omega) (by omega) (by decide) h
theorem pm_anc12 {post : Int32 → Prop} (hR : pm_R C f1 a1 a2 a3 a4 a5 a6 a7 a8) (h : post 1) : wpX_ancestor post (nI 6, f1, f2, f3, a1, a2, a3, a4, a5, a6, a7, a8) (nI 1) (nI 2) := by
  unfold wpX_ancestor
  exact pm_isV (by omega) (by omega) (br_f (by decide) (pm_isV (by omega) (by omega) (br_f (by decide) (pm_isA true hR.1 (by omega) (by omega) (by decide) (br_f (by decide) h)))))
theorem pm_anc21 {post : Int32 → Prop} (hR : pm_R C f1 a1 a2 a3 a4 a5 a6 a7 a8) (h : post 0) : wpX_ancestor post (nI 6, f1, f2, f3, a1, a2, a3, a4, a5, a6, a7, a8) (nI 2) (nI 1) := by
  unfold wpX_ancestor
  exact pm_isV (by omega) (by omega) (br_f (by decide) (pm_isV (by omega) (by omega) (br_f (by decide) (pm_isA false hR.1 (by omega) (by omega) (by decide) (br_t rfl h)))))
theorem pm_parent5 {post : Int32 → Prop} (hR : pm_R C f1 a1 a2 a3 a4 a5 a6 a7 a8) (h : post 4) : wpX_parent post (nI 6, f1, f2, f3, a1, a2, a3, a4, a5, a6, a7, a8) (nI 5) := by
  unfold wpX_parent
  refine pm_isV (by omega) (by omega) (br_f (by decide) (br_f (by decide) ⟨pk_in 5 40 (by omega), ?_⟩))
  rw [nI_clamp (by omega), hR.1.1 5 (by omega) (by omega)]
  exact h
end
end
section
def pm_in (a b k : Nat) : Bool := decide (a ≤ k ∧ k < a + b)
def pm_if (b : Bool) (x y : Int32) : Int32 := match b with
  | true => x
  | false => y
def pm_b (x : Int32) : Int32 := if x = 0 then 0 else 1
theorem pm_inn {post : Int32 → Prop} {P : Int32} {a b k : Nat} (hp : pm_pl P a b) (hk : k < 32) (h : post (pm_bi (pm_in a b k))) : wpL_in post () P (nI k) := by
  have e1 := pm_and15 hp
  have e2 := pm_shr4 hp
  obtain ⟨h1, h2, h3, h4⟩ := hp
  unfold wpL_in
  rw [e1, e2, nI_add]
  refine pk_lt k a (fun z => ?_) (fun z => pk_le (a + b) k (fun z2 => ?_) (fun z2 => ?_))
  · have e : pm_in a b k = false := decide_eq_false (by omega)
    rw [e] at h
    exact h
  · have e : pm_in a b k = false := decide_eq_false (by omega)
    rw [e] at h
    exact h
  · have e : pm_in a b k = true := decide_eq_true (by omega)
    rw [e] at h
    exact h
section
variable {post : Int32 → St0 → Prop} {mc ms : Nat} {J133 J142 : Int32 → Int32 → Int32 → Int32 → Int32 → Int32 → Int32 → Int32 → Int32 → Int32 → Int32 → (Nat → Int32) → (Nat → Int64) → (Nat → Int32) → (Nat → Int32) → (Nat → Int32) → (Nat → Int32) → (Nat → Int32) → (Nat → Int32) → Prop} {x3 x4 x6 x7 x8 x9 x10 x11 x12 x13 x14 x15 x16 x17 x18 x19 x20 x21 x23 x24 x25 z0 z1 : Int32} {kc ks : Nat} {f0 f1 f2 f3 : Int32} {a1 : Nat → Int32} {a2 : Nat → Int64} {a3 a4 a5 a6 a7 a8 : Nat → Int32} {C : Nat → List pm_E} {pa pb qa qb ra rb k key : Nat}
theorem pm_598 (h : J142 x10 x11 x12 x13 (if x18 = x9 ∧ ¬ x24 = 0 then 1 else x14) x15 (x17 + 1) f0 f1 f2 f3 a1 a2 a3 a4 a5 a6 a7 a8) : wL_lawOf_598 post mc ms J133 J142 x3 x4 x6 x7 x8 x9 x10 x11 x12 x13 x14 x15 x16 x17 x18 x24 kc ks f0 f1 f2 f3 a1 a2 a3 a4 a5 a6 a7 a8 := by
  unfold wL_lawOf_598
  by_cases e : x18 = x9
  · by_cases e2 : x24 = 0
    · rw [if_neg (fun z => z.2 e2)] at h
      exact br_t e (br_t e2 (nm_e h))
    · rw [if_pos ⟨e, e2⟩] at h
      exact br_t e (br_f e2 (nm_e h))
  · rw [if_neg (fun z => e z.1)] at h
    exact br_f e (nm_e h)
theorem pm_584 (h : J142 x10 x11 x12 (if x18 = x9 then z1 + z0 else x13) (if x18 = x9 ∧ ¬ x24 = 0 then 1 else x14) x15 (x17 + 1) f0 f1 f2 f3 a1 a2 a3 a4 a5 a6 a7 a8) : wL_lawOf_584 post mc ms J133 J142 x3 x4 x6 x7 x8 x9 x10 x11 x12 x13 x14 x15 x16 x17 x18 x24 z0 z1 kc ks f0 f1 f2 f3 a1 a2 a3 a4 a5 a6 a7 a8 := by
  unfold wL_lawOf_584
  by_cases e : x18 = x9
  · rw [if_pos e] at h
    exact nm_e (br_t e (pm_598 h))
  · rw [if_neg e] at h
    exact nm_e (br_f e (pm_598 h))
theorem pm_573 (h : J142 x10 x11 x12 (if x18 = x9 then z1 + z0 + pm_b x25 else x13) (if x18 = x9 ∧ ¬ x24 = 0 then 1 else x14) x15 (x17 + 1) f0 f1 f2 f3 a1 a2 a3 a4 a5 a6 a7 a8) : wL_lawOf_573 post mc ms J133 J142 x3 x4 x6 x7 x8 x9 x10 x11 x12 x13 x14 x15 x16 x17 x18 x24 x25 z0 z1 kc ks f0 f1 f2 f3 a1 a2 a3 a4 a5 a6 a7 a8 := by
  unfold wL_lawOf_573
  by_cases e : x25 = 0
  · have eb : pm_b x25 = 0 := if_pos e
    rw [eb] at h
    exact br_t e (pm_584 h)
  · have eb : pm_b x25 = 1 := if_neg e
    rw [eb] at h
    exact br_f e (pm_584 h)
theorem pm_562 (h : J142 x10 x11 x12 (if x18 = x9 then z1 + z0 + pm_b x24 + pm_b x25 else x13) (if x18 = x9 ∧ ¬ x24 = 0 then 1 else x14) x15 (x17 + 1) f0 f1 f2 f3 a1 a2 a3 a4 a5 a6 a7 a8) : wL_lawOf_562 post mc ms J133 J142 x3 x4 x6 x7 x8 x9 x10 x11 x12 x13 x14 x15 x16 x17 x18 x24 x25 z0 z1 kc ks f0 f1 f2 f3 a1 a2 a3 a4 a5 a6 a7 a8 := by
  unfold wL_lawOf_562
  by_cases e : x24 = 0
  · have eb : pm_b x24 = 0 := if_pos e
    rw [eb] at h
    exact br_t e (pm_573 h)
  · have eb : pm_b x24 = 1 := if_neg e
    rw [eb] at h
    exact br_f e (pm_573 h)
theorem pm_546 (hq : pm_pl x7 qa qb) (hk : k < 32) (h : J142 x10 x11 x12 (if (nI k) = x9 then z1 + z0 + pm_bi (pm_in qa qb k) + pm_b x24 + pm_b x25 else x13) (if (nI k) = x9 ∧ ¬ x24 = 0 then 1 else x14) x15 (x17 + 1) f0 f1 f2 f3 a1 a2 a3 a4 a5 a6 a7 a8) : wL_lawOf_546 post mc ms J133 J142 x3 x4 x6 x7 x8 x9 x10 x11 x12 x13 x14 x15 x16 x17 (nI k) x24 x25 z0 z1 kc ks f0 f1 f2 f3 a1 a2 a3 a4 a5 a6 a7 a8 := by
  unfold wL_lawOf_546
  refine pm_inn hq hk ?_
  cases e : pm_in qa qb k with
  | false =>
    rw [e] at h
    exact br_t rfl (pm_562 h)
  | true =>
    rw [e] at h
    exact br_f (by decide) (pm_562 h)
theorem pm_536 (hq : pm_pl x7 qa qb) (hk : k < 32) (h : J142 x10 x11 x12 (if (nI k) = x9 then z0 + pm_b x21 + pm_bi (pm_in qa qb k) + pm_b x24 + pm_b x25 else x13) (if (nI k) = x9 ∧ ¬ x24 = 0 then 1 else x14) x15 (x17 + 1) f0 f1 f2 f3 a1 a2 a3 a4 a5 a6 a7 a8) : wL_lawOf_536 post mc ms J133 J142 x3 x4 x6 x7 x8 x9 x10 x11 x12 x13 x14 x15 x16 x17 (nI k) x21 x24 x25 z0 kc ks f0 f1 f2 f3 a1 a2 a3 a4 a5 a6 a7 a8 := by
  unfold wL_lawOf_536
  by_cases e : x21 = 0
  · have eb : pm_b x21 = 0 := if_pos e
    rw [eb] at h
    exact br_t e (pm_546 hq hk h)
  · have eb : pm_b x21 = 1 := if_neg e
    rw [eb] at h
    exact br_f e (pm_546 hq hk h)
theorem pm_521 (hp : pm_pl x6 pa pb) (hq : pm_pl x7 qa qb) (hk : k < 32) (h : J142 x10 x11 x12 (if (nI k) = x9 then pm_bi (pm_in pa pb k) + pm_b x21 + pm_bi (pm_in qa qb k) + pm_b x24 + pm_b x25 else x13) (if (nI k) = x9 ∧ ¬ x24 = 0 then 1 else x14) x15 (x17 + 1) f0 f1 f2 f3 a1 a2 a3 a4 a5 a6 a7 a8) : wL_lawOf_521 post mc ms J133 J142 x3 x4 x6 x7 x8 x9 x10 x11 x12 x13 x14 x15 x16 x17 (nI k) x21 x24 x25 kc ks f0 f1 f2 f3 a1 a2 a3 a4 a5 a6 a7 a8 := by
  unfold wL_lawOf_521
  refine pm_inn hp hk ?_
  cases e : pm_in pa pb k with
  | false =>
    rw [e] at h
    exact br_t rfl (pm_536 hq hk h)
  | true =>
    rw [e] at h
    exact br_f (by decide) (pm_536 hq hk h)
theorem pm_499 (hp : pm_pl x6 pa pb) (hq : pm_pl x7 qa qb) (hk : k < 32) (h : J142 x10 x11 (if x21 = x24 ∧ (x21 = 0 ∨ x20 = x23) then x12 else x12 + 1) (if (nI k) = x9 then pm_bi (pm_in pa pb k) + pm_b x21 + pm_bi (pm_in qa qb k) + pm_b x24 + pm_b x25 else x13) (if (nI k) = x9 ∧ ¬ x24 = 0 then 1 else x14) x15 (x17 + 1) f0 f1 f2 f3 a1 a2 a3 a4 a5 a6 a7 a8) : wL_lawOf_499 post mc ms J133 J142 x3 x4 x6 x7 x8 x9 x10 x11 x12 x13 x14 x15 x16 x17 (nI k) x20 x21 x23 x24 x25 kc ks f0 f1 f2 f3 a1 a2 a3 a4 a5 a6 a7 a8 := by
  unfold wL_lawOf_499
  have r518 : ¬ (x21 = x24 ∧ (x21 = 0 ∨ x20 = x23)) → wL_lawOf_518 post mc ms J133 J142 x3 x4 x6 x7 x8 x9 x10 x11 x12 x13 x14 x15 x16 x17 (nI k) x21 x24 x25 kc ks f0 f1 f2 f3 a1 a2 a3 a4 a5 a6 a7 a8 := by
    intro e
    rw [if_neg e] at h
    unfold wL_lawOf_518
    exact nm_e (pm_521 hp hq hk h)
  have r521 : (x21 = x24 ∧ (x21 = 0 ∨ x20 = x23)) → wL_lawOf_521 post mc ms J133 J142 x3 x4 x6 x7 x8 x9 x10 x11 x12 x13 x14 x15 x16 x17 (nI k) x21 x24 x25 kc ks f0 f1 f2 f3 a1 a2 a3 a4 a5 a6 a7 a8 := by
    intro e
    rw [if_pos e] at h
    exact pm_521 hp hq hk h
  by_cases e1 : x21 = x24
  · by_cases e2 : x21 = 0
    · exact br_t e1 (br_t e2 (r521 ⟨e1, Or.inl e2⟩))
    · by_cases e3 : x20 = x23
      · exact br_t e1 (br_f e2 (br_t e3 (r521 ⟨e1, Or.inr e3⟩)))
      · exact br_t e1 (br_f e2 (br_f e3 (r518 (fun z => z.2.elim e2 e3))))
  · exact br_f e1 (r518 (fun z => e1 z.1))
theorem pm_th01 (q : Option Int32) : pm_th q = 0 ∨ pm_th q = 1 := by
  cases q with
  | none => exact Or.inl rfl
  | some x => exact Or.inr rfl
theorem pm_bth (q : Option Int32) : pm_b (pm_th q) = pm_th q := by
  cases q with
  | none => exact if_pos rfl
  | some x => exact if_neg (by show ¬ (1 : Int32) = 0; decide)
theorem pm_435 (hR : pm_R C f1 a1 a2 a3 a4 a5 a6 a7 a8) (hp : pm_pl x6 pa pb) (hq : pm_pl x7 qa qb) (hk : k < 32) (h45 : ∀ y, pm_f C 5 k = some y → x23 = y) (h25 : x25 = pm_th (pm_f C 5 k)) (hz : z1 = z0) (h : ∀ g2 g3, J142 (nI (pm_cn (pm_f C 5) (k + 1))) (pm_sm (pm_f C 5) (k + 1)) (if x21 = x24 ∧ (x21 = 0 ∨ x20 = x23) then x12 else x12 + 1) (if (nI k) = x9 then pm_bi (pm_in pa pb k) + pm_b x21 + pm_bi (pm_in qa qb k) + pm_b x24 + pm_b x25 else x13) (if (nI k) = x9 ∧ ¬ x24 = 0 then 1 else x14) (pm_la (pm_f C 5) (k + 1)) (x17 + 1) (nI 6) f1 g2 g3 a1 a2 a3 a4 a5 a6 a7 a8) : wL_lawOf_435 post mc ms J133 J142 x3 x4 x6 x7 x8 x9 (nI (pm_cn (pm_f C 5) k)) (pm_sm (pm_f C 5) k) x12 x13 x14 (pm_la (pm_f C 5) k) x16 x17 (nI k) x20 x21 x23 x24 x25 z0 z1 kc ks (nI 6) f1 f2 f3 a1 a2 a3 a4 a5 a6 a7 a8 := by
  unfold wL_lawOf_435
  refine br_t hz ?_
  have ec : pm_cn (pm_f C 5) (k + 1) = pm_cn (pm_f C 5) k + pm_o1 (pm_f C 5 k) := rfl
  have es : pm_sm (pm_f C 5) (k + 1) = pm_sm (pm_f C 5) k + pm_vl (pm_f C 5 k) := rfl
  have el : pm_la (pm_f C 5) (k + 1) = pm_pi (pm_f C 5 k) (nI k) (pm_la (pm_f C 5) k) := rfl
  rw [ec, es, el] at h
  cases e : pm_f C 5 k with
  | none =>
    rw [e] at h h25
    have h' := h f2 f3
    have e0 : pm_sm (pm_f C 5) k + pm_vl none = pm_sm (pm_f C 5) k := Int32.add_zero _
    rw [e0] at h'
    exact br_t h25 (pm_499 hp hq hk h')
  | some y =>
    rw [e] at h h25
    have hy := h45 y e
    refine br_f (by rw [h25]; show ¬ (1 : Int32) = 0; decide) (pm_select (v := 5) hR (by omega) hk e (fun g2 g3 => br_t rfl (pm_previous (v := 5) hR (by omega) hk (fun g2 g3 => ?_))))
    have r480 : ∀ z, pm_pv (pm_f C 5) k = z → wL_lawOf_480 post mc ms J133 J142 x3 x4 x6 x7 x8 x9 (nI (pm_cn (pm_f C 5) k)) (pm_sm (pm_f C 5) k) x12 x13 x14 x16 x17 (nI k) x20 x21 x23 x24 x25 z (pm_pv (pm_f C 5) k) kc ks (nI 6) f1 g2 g3 a1 a2 a3 a4 a5 a6 a7 a8 := by
      intro z ez
      unfold wL_lawOf_480
      refine br_t ez (nm_r (nI_1 _) (nm_e ?_))
      rw [hy]
      rw [hy] at h
      exact pm_499 hp hq hk (h g2 g3)
    rcases pm_lapv (pm_f C 5) k (by omega) with ⟨p1, p2⟩ | ⟨p1, p2⟩
    · exact br_t p1 (r480 _ p2)
    · exact br_f p1 (r480 _ p2)
theorem pm_415 (hR : pm_R C f1 a1 a2 a3 a4 a5 a6 a7 a8) (hp : pm_pl x6 pa pb) (hq : pm_pl x7 qa qb) (hk : k < 32) (h45 : ∀ y, pm_f C 5 k = some y → x23 = y) (hz : z0 = pm_th (pm_f C 5 k)) (h : ∀ g2 g3, J142 (nI (pm_cn (pm_f C 5) (k + 1))) (pm_sm (pm_f C 5) (k + 1)) (if x21 = x24 ∧ (x21 = 0 ∨ x20 = x23) then x12 else x12 + 1) (if (nI k) = x9 then pm_bi (pm_in pa pb k) + pm_b x21 + pm_bi (pm_in qa qb k) + pm_b x24 + pm_th (pm_f C 5 k) else x13) (if (nI k) = x9 ∧ ¬ x24 = 0 then 1 else x14) (pm_la (pm_f C 5) (k + 1)) (x17 + 1) (nI 6) f1 g2 g3 a1 a2 a3 a4 a5 a6 a7 a8) : wL_lawOf_415 post mc ms J133 J142 x3 x4 x6 x7 x8 x9 (nI (pm_cn (pm_f C 5) k)) (pm_sm (pm_f C 5) k) x12 x13 x14 (pm_la (pm_f C 5) k) x16 x17 (nI k) x20 x21 x23 x24 z0 kc ks (nI 6) f1 f2 f3 a1 a2 a3 a4 a5 a6 a7 a8 := by
  have hb := pm_bth (pm_f C 5 k)
  unfold wL_lawOf_415
  refine pm_has (v := 5) hR (by omega) hk (fun g2 g3 => ?_)
  rw [← hb, ← hz] at h
  rcases pm_th01 (pm_f C 5 k) with e | e
  · exact br_t (hz.trans e) (pm_435 hR hp hq hk h45 hz e h)
  · exact br_f (by rw [hz, e]; decide) (pm_435 hR hp hq hk h45 hz e h)
theorem pm_393 (hR : pm_R C f1 a1 a2 a3 a4 a5 a6 a7 a8) (hp : pm_pl x6 pa pb) (hq : pm_pl x7 qa qb) (hk : k < 32) (h45 : pm_f C 5 k = if k = key then none else pm_f C 4 k) (h23 : x23 = pm_vl (pm_f C 4 k)) (h24 : x24 = pm_th (pm_f C 4 k)) (hkey : key < 32) (hz : z1 = z0) (h : ∀ g2 g3, J142 (nI (pm_cn (pm_f C 5) (k + 1))) (pm_sm (pm_f C 5) (k + 1)) (if x21 = x24 ∧ (x21 = 0 ∨ x20 = x23) then x12 else x12 + 1) (if (nI k) = (nI key) then pm_bi (pm_in pa pb k) + pm_b x21 + pm_bi (pm_in qa qb k) + pm_b x24 + pm_th (pm_f C 5 k) else x13) (if (nI k) = (nI key) ∧ ¬ x24 = 0 then 1 else x14) (pm_la (pm_f C 5) (k + 1)) (x17 + 1) (nI 6) f1 g2 g3 a1 a2 a3 a4 a5 a6 a7 a8) : wL_lawOf_393 post mc ms J133 J142 x3 x4 x6 x7 x8 (nI key) (nI (pm_cn (pm_f C 5) k)) (pm_sm (pm_f C 5) k) x12 x13 x14 (pm_la (pm_f C 5) k) x16 x17 (nI k) x20 x21 x23 x24 z0 z1 kc ks (nI 6) f1 f2 f3 a1 a2 a3 a4 a5 a6 a7 a8 := by
  have hy : ∀ y, pm_f C 5 k = some y → x23 = y := by
    intro y e
    rw [h45] at e
    by_cases ek : k = key
    · rw [if_pos ek] at e
      cases e
    · rw [if_neg ek] at e
      rw [h23, e]
      rfl
  have r414 : pm_f C 5 k = none → wL_lawOf_414 post mc ms J133 J142 x3 x4 x6 x7 x8 (nI key) (nI (pm_cn (pm_f C 5) k)) (pm_sm (pm_f C 5) k) x12 x13 x14 (pm_la (pm_f C 5) k) x16 x17 (nI k) x20 x21 x23 x24 kc ks (nI 6) f1 f2 f3 a1 a2 a3 a4 a5 a6 a7 a8 := by
    intro e
    unfold wL_lawOf_414
    exact pm_415 hR hp hq hk hy (by rw [e]; rfl) h
  unfold wL_lawOf_393
  refine br_t hz ?_
  cases e4 : pm_f C 4 k with
  | none =>
    rw [e4] at h24 h45
    exact br_t h24 (r414 (by rw [h45]; by_cases ek : k = key; rw [if_pos ek]; rw [if_neg ek]))
  | some y =>
    rw [e4] at h24 h45
    refine br_f (by rw [h24]; show ¬ (1 : Int32) = 0; decide) (pk_eq k key (fun ek => r414 (by rw [h45, if_pos ek])) (fun ek => pm_415 hR hp hq hk hy ?_ h))
    rw [h45, if_neg ek]
    rfl
theorem pm_372 (hR : pm_R C f1 a1 a2 a3 a4 a5 a6 a7 a8) (hp : pm_pl x6 pa pb) (hq : pm_pl x7 qa qb) (hk : k < 32) (h45 : pm_f C 5 k = if k = key then none else pm_f C 4 k) (h23 : x23 = pm_vl (pm_f C 4 k)) (h24 : x24 = pm_th (pm_f C 4 k)) (hkey : key < 32) (hz : z1 = z0) (h : ∀ g2 g3, J142 (nI (pm_cn (pm_f C 5) (k + 1))) (pm_sm (pm_f C 5) (k + 1)) (if x21 = x24 ∧ (x21 = 0 ∨ x20 = x23) then x12 else x12 + 1) (if (nI k) = (nI key) then pm_bi (pm_in pa pb k) + pm_b x21 + pm_bi (pm_in qa qb k) + pm_b x24 + pm_th (pm_f C 5 k) else x13) (if (nI k) = (nI key) ∧ ¬ x24 = 0 then 1 else x14) (pm_la (pm_f C 5) (k + 1)) (x17 + 1) (nI 6) f1 g2 g3 a1 a2 a3 a4 a5 a6 a7 a8) : wL_lawOf_372 post mc ms J133 J142 x3 x4 x6 x7 x8 (nI key) (nI (pm_cn (pm_f C 5) k)) (pm_sm (pm_f C 5) k) x12 x13 x14 (pm_la (pm_f C 5) k) x16 x17 (nI k) x20 x21 x23 x24 z0 z1 kc ks (nI 6) f1 f2 f3 a1 a2 a3 a4 a5 a6 a7 a8 := by
  unfold wL_lawOf_372
  refine br_t hz (pm_has (v := 4) hR (by omega) hk (fun g2 g3 => ?_))
  rcases pm_th01 (pm_f C 4 k) with e | e
  · exact br_t (h24.trans e) (pm_393 hR hp hq hk h45 h23 h24 hkey e h)
  · exact br_f (by rw [h24, e]; decide) (pm_393 hR hp hq hk h45 h23 h24 hkey e h)
theorem pm_311 (hR : pm_R C f1 a1 a2 a3 a4 a5 a6 a7 a8) (hp : pm_pl x6 pa pb) (hq : pm_pl x7 qa qb) (hk : k < 32) (h45 : pm_f C 5 k = if k = key then none else pm_f C 4 k) (h23 : x23 = pm_vl (pm_f C 4 k)) (h24 : x24 = pm_th (pm_f C 4 k)) (hkey : key < 32) (h19 : x19 = pm_vl (pm_f C 1 k)) (h20 : x20 = pm_vl (pm_f C 2 k)) (h21 : x21 = pm_th (pm_f C 2 k)) (h : ∀ g2 g3, J142 (nI (pm_cn (pm_f C 5) (k + 1))) (pm_sm (pm_f C 5) (k + 1)) (if x21 = x24 ∧ (x21 = 0 ∨ x20 = x23) then x12 else x12 + 1) (if (nI k) = (nI key) then pm_bi (pm_in pa pb k) + pm_b x21 + pm_bi (pm_in qa qb k) + pm_b x24 + pm_th (pm_f C 5 k) else x13) (if (nI k) = (nI key) ∧ ¬ x24 = 0 then 1 else x14) (pm_la (pm_f C 5) (k + 1)) (x17 + 1) (nI 6) f1 g2 g3 a1 a2 a3 a4 a5 a6 a7 a8) : wL_lawOf_311 post mc ms J133 J142 x3 x4 x6 x7 x8 (nI key) (nI (pm_cn (pm_f C 5) k)) (pm_sm (pm_f C 5) k) x12 x13 x14 (pm_la (pm_f C 5) k) x16 x17 (nI k) x19 x20 x21 x23 x24 kc ks (nI 6) f1 f2 f3 a1 a2 a3 a4 a5 a6 a7 a8 := by
  unfold wL_lawOf_311
  refine pm_get (v := 1) hR (by omega) hk (fun g2 g3 => br_t h19.symm (pm_get (v := 2) hR (by omega) hk (fun g2 g3 => br_t h20.symm (pm_get (v := 4) hR (by omega) hk (fun g2 g3 => br_t h23.symm (pm_has (v := 2) hR (by omega) hk (fun g2 g3 => ?_)))))))
  rcases pm_th01 (pm_f C 2 k) with e | e
  · exact br_t (h21.trans e) (pm_372 hR hp hq hk h45 h23 h24 hkey e h)
  · exact br_f (by rw [h21, e]; decide) (pm_372 hR hp hq hk h45 h23 h24 hkey e h)
theorem pm_287 {w : Int32} (hq : pm_pl x7 qa qb) (hr : pm_pl x8 ra rb) (hk : k < 32) (hw : pm_if (pm_in ra rb k) x21 (pm_bi (pm_in qa qb k)) = w) (h : wL_lawOf_311 post mc ms J133 J142 x3 x4 x6 x7 x8 x9 x10 x11 x12 x13 x14 x15 x16 x17 (nI k) x19 x20 x21 z0 w kc ks f0 f1 f2 f3 a1 a2 a3 a4 a5 a6 a7 a8) : wL_lawOf_287 post mc ms J133 J142 x3 x4 x6 x7 x8 x9 x10 x11 x12 x13 x14 x15 x16 x17 (nI k) x19 x20 x21 z0 kc ks f0 f1 f2 f3 a1 a2 a3 a4 a5 a6 a7 a8 := by
  unfold wL_lawOf_287
  refine pm_inn hr hk ?_
  subst hw
  cases e : pm_in ra rb k with
  | false =>
    rw [e] at h
    exact br_t rfl (pm_inn hq hk h)
  | true =>
    rw [e] at h
    exact br_f (by decide) h
theorem pm_268 {w : Int32} (hr : pm_pl x8 ra rb) (hk : k < 32) (hw : pm_if (pm_in ra rb k) x20 z0 = w) (h : wL_lawOf_287 post mc ms J133 J142 x3 x4 x6 x7 x8 x9 x10 x11 x12 x13 x14 x15 x16 x17 (nI k) x19 x20 x21 w kc ks f0 f1 f2 f3 a1 a2 a3 a4 a5 a6 a7 a8) : wL_lawOf_268 post mc ms J133 J142 x3 x4 x6 x7 x8 x9 x10 x11 x12 x13 x14 x15 x16 x17 (nI k) x19 x20 x21 z0 kc ks f0 f1 f2 f3 a1 a2 a3 a4 a5 a6 a7 a8 := by
  unfold wL_lawOf_268
  refine pm_inn hr hk ?_
  subst hw
  cases e : pm_in ra rb k with
  | false =>
    rw [e] at h
    exact br_t rfl h
  | true =>
    rw [e] at h
    exact br_f (by decide) h
theorem pm_241 {w : Int32} (hq : pm_pl x7 qa qb) (hk : k < 32) (hw : pm_if (pm_in qa qb k) (x3 + (3 * (nI k - nI qa))) 0 = w) (h : wL_lawOf_268 post mc ms J133 J142 x3 x4 x6 x7 x8 x9 x10 x11 x12 x13 x14 x15 x16 x17 (nI k) x19 x20 z0 w kc ks f0 f1 f2 f3 a1 a2 a3 a4 a5 a6 a7 a8) : wL_lawOf_241 post mc ms J133 J142 x3 x4 x6 x7 x8 x9 x10 x11 x12 x13 x14 x15 x16 x17 (nI k) x19 x20 z0 kc ks f0 f1 f2 f3 a1 a2 a3 a4 a5 a6 a7 a8 := by
  unfold wL_lawOf_241
  refine pm_inn hq hk ?_
  rw [pm_shr4 hq]
  subst hw
  cases e : pm_in qa qb k with
  | false =>
    rw [e] at h
    exact br_t rfl h
  | true =>
    rw [e] at h
    exact br_f (by decide) h
theorem pm_214 {w : Int32} (hp : pm_pl x6 pa pb) (hq : pm_pl x7 qa qb) (hk : k < 32) (hw : pm_if (pm_in pa pb k) 1 (pm_bi (pm_in qa qb k)) = w) (h : wL_lawOf_241 post mc ms J133 J142 x3 x4 x6 x7 x8 x9 x10 x11 x12 x13 x14 x15 x16 x17 (nI k) x19 z0 w kc ks f0 f1 f2 f3 a1 a2 a3 a4 a5 a6 a7 a8) : wL_lawOf_214 post mc ms J133 J142 x3 x4 x6 x7 x8 x9 x10 x11 x12 x13 x14 x15 x16 x17 (nI k) x19 z0 kc ks f0 f1 f2 f3 a1 a2 a3 a4 a5 a6 a7 a8 := by
  unfold wL_lawOf_214
  refine pm_inn hp hk ?_
  subst hw
  cases e : pm_in pa pb k with
  | false =>
    rw [e] at h
    refine br_t rfl (pm_inn hq hk ?_)
    cases e2 : pm_in qa qb k with
    | false =>
      rw [e2] at h
      exact br_t rfl h
    | true =>
      rw [e2] at h
      exact br_f (by decide) h
  | true =>
    rw [e] at h
    exact br_f (by decide) h
theorem pm_185 {w : Int32} (hq : pm_pl x7 qa qb) (hk : k < 32) (hw : pm_if (pm_in qa qb k) (7 - (2 * (nI k - nI qa))) z0 = w) (h : wL_lawOf_214 post mc ms J133 J142 x3 x4 x6 x7 x8 x9 x10 x11 x12 x13 x14 x15 x16 x17 (nI k) z0 w kc ks f0 f1 f2 f3 a1 a2 a3 a4 a5 a6 a7 a8) : wL_lawOf_185 post mc ms J133 J142 x3 x4 x6 x7 x8 x9 x10 x11 x12 x13 x14 x15 x16 x17 (nI k) z0 kc ks f0 f1 f2 f3 a1 a2 a3 a4 a5 a6 a7 a8 := by
  unfold wL_lawOf_185
  refine pm_inn hq hk ?_
  rw [pm_shr4 hq]
  subst hw
  cases e : pm_in qa qb k with
  | false =>
    rw [e] at h
    exact br_t rfl h
  | true =>
    rw [e] at h
    exact br_f (by decide) h
end
end
section
/-- what the law expects of the versions, by the plans -/
def pm_Y (C : Nat → List pm_E) (x3 x4 : Int32) (pa pb qa qb ra rb key : Nat) : Prop := ∀ k, k < 32 →
  pm_if (pm_in pa pb k) (x3 + (nI k - nI pa) * x4) 0 = pm_vl (pm_f C 1 k) ∧
  pm_if (pm_in qa qb k) (7 - (2 * (nI k - nI qa))) (pm_vl (pm_f C 1 k)) = pm_vl (pm_f C 2 k) ∧
  pm_if (pm_in pa pb k) 1 (pm_bi (pm_in qa qb k)) = pm_th (pm_f C 2 k) ∧
  pm_if (pm_in ra rb k) (pm_vl (pm_f C 2 k)) (pm_if (pm_in qa qb k) (x3 + (3 * (nI k - nI qa))) 0) = pm_vl (pm_f C 4 k) ∧
  pm_if (pm_in ra rb k) (pm_th (pm_f C 2 k)) (pm_bi (pm_in qa qb k)) = pm_th (pm_f C 4 k) ∧
  pm_f C 5 k = (if k = key then none else pm_f C 4 k) ∧
  pm_bi (pm_in pa pb k) = pm_th (pm_f C 1 k) ∧ pm_bi (pm_in qa qb k) = pm_th (pm_f C 3 k) ∧ pm_f C 0 k = none
def pm_hr (C : Nat → List pm_E) (pa pb qa qb k : Nat) : Int32 := pm_bi (pm_in pa pb k) + pm_th (pm_f C 2 k) + pm_bi (pm_in qa qb k) + pm_th (pm_f C 4 k) + pm_th (pm_f C 5 k)
def pm_x13 (C : Nat → List pm_E) (pa pb qa qb key k : Nat) : Int32 := if key < k then pm_hr C pa pb qa qb key else 0
def pm_x14 (C : Nat → List pm_E) (key k : Nat) : Int32 := if key < k ∧ ¬ pm_th (pm_f C 4 key) = 0 then 1 else 0
theorem pm_e12 (q r : Option Int32) (n : Nat) : (if pm_th q = pm_th r ∧ (pm_th q = 0 ∨ pm_vl q = pm_vl r) then nI n else nI n + 1) = nI (n + pm_d1 q r) := by
  by_cases e : q = r
  · have e1 : pm_d1 q r = 0 := if_pos e
    rw [e1, if_pos ⟨by rw [e], Or.inr (by rw [e])⟩]
    rfl
  · have e1 : pm_d1 q r = 1 := if_neg e
    rw [e1, if_neg, nI_1]
    intro z
    cases q with
    | none =>
      cases r with
      | none => exact e rfl
      | some y =>
        have z1 : (0 : Int32) = 1 := z.1
        exact absurd z1 (by decide)
    | some x =>
      cases r with
      | none =>
        have z1 : (1 : Int32) = 0 := z.1
        exact absurd z1 (by decide)
      | some y =>
        rcases z.2 with z2 | z2
        · have z1 : (1 : Int32) = 0 := z2
          exact absurd z1 (by decide)
        · have z3 : x = y := z2
          exact e (by rw [z3])
theorem pm_e13 {C : Nat → List pm_E} {pa pb qa qb key k : Nat} (hk : k < 32) (hkey : key < 32) : (if nI k = nI key then pm_hr C pa pb qa qb k else pm_x13 C pa pb qa qb key k) = pm_x13 C pa pb qa qb key (k + 1) := by
  unfold pm_x13
  by_cases e : k = key
  · rw [if_pos (by rw [e]), if_pos (by omega), e]
  · rw [if_neg (fun z => e ((nI_eq (by omega) (by omega)).mp z))]
    by_cases e2 : key < k
    · rw [if_pos e2, if_pos (by omega)]
    · rw [if_neg e2, if_neg (by omega)]
theorem pm_e14 {C : Nat → List pm_E} {key k : Nat} (hk : k < 32) (hkey : key < 32) : (if nI k = nI key ∧ ¬ pm_th (pm_f C 4 k) = 0 then 1 else pm_x14 C key k) = pm_x14 C key (k + 1) := by
  unfold pm_x14
  by_cases e : k = key
  · by_cases e2 : pm_th (pm_f C 4 k) = 0
    · have e3 : pm_th (pm_f C 4 key) = 0 := by rw [← e]; exact e2
      rw [if_neg (fun z => z.2 e2), if_neg (fun z => z.2 e3), if_neg (fun z => z.2 e3)]
    · have e3 : ¬ pm_th (pm_f C 4 key) = 0 := by rw [← e]; exact e2
      rw [if_pos ⟨by rw [e], e2⟩, if_pos ⟨by omega, e3⟩]
  · rw [if_neg (fun z => e ((nI_eq (by omega) (by omega)).mp z.1))]
    by_cases e2 : pm_th (pm_f C 4 key) = 0
    · rw [if_neg (fun z => z.2 e2), if_neg (fun z => z.2 e2)]
    · by_cases e3 : key < k
      · rw [if_pos ⟨e3, e2⟩, if_pos ⟨by omega, e2⟩]
      · rw [if_neg (fun z => e3 z.1), if_neg (fun z => absurd z.1 (by omega))]
theorem pm_dn45 {C : Nat → List pm_E} {key : Nat} (h : ∀ k, k < 32 → pm_f C 5 k = if k = key then none else pm_f C 4 k) : ∀ k, k ≤ 32 → pm_dn (pm_f C 4) (pm_f C 5) k = if key < k then pm_o1 (pm_f C 4 key) else 0 := by
  intro k
  induction k with
  | zero => intro _; exact rfl
  | succ k ih =>
    intro hk
    have e : pm_dn (pm_f C 4) (pm_f C 5) (k + 1) = pm_dn (pm_f C 4) (pm_f C 5) k + pm_d1 (pm_f C 4 k) (pm_f C 5 k) := rfl
    rw [e, ih (by omega), h k (by omega)]
    by_cases ek : k = key
    · subst ek
      rw [if_pos rfl, if_neg (Nat.lt_irrefl k), if_pos (Nat.lt_succ_self k)]
      cases pm_f C 4 k with
      | none => rfl
      | some y => rfl
    · rw [if_neg ek]
      have e2 : pm_d1 (pm_f C 4 k) (pm_f C 4 k) = 0 := if_pos rfl
      rw [e2]
      by_cases e3 : key < k
      · rw [if_pos e3, if_pos (by omega)]
        rfl
      · rw [if_neg e3, if_neg (by omega)]
section
variable {post : Int32 → St0 → Prop} {mc ms : Nat} {J133 J142 : Int32 → Int32 → Int32 → Int32 → Int32 → Int32 → Int32 → Int32 → Int32 → Int32 → Int32 → (Nat → Int32) → (Nat → Int64) → (Nat → Int32) → (Nat → Int32) → (Nat → Int32) → (Nat → Int32) → (Nat → Int32) → (Nat → Int32) → Prop} {x3 x4 x6 x7 x8 x9 x10 x11 x12 x13 x14 x15 x16 x17 x18 x19 x20 x21 x23 x24 x25 z0 z1 : Int32} {kc ks : Nat} {f0 f1 f2 f3 : Int32} {a1 : Nat → Int32} {a2 : Nat → Int64} {a3 a4 a5 a6 a7 a8 : Nat → Int32} {C : Nat → List pm_E} {pa pb qa qb ra rb k key : Nat}
theorem pm_step (hR : pm_R C f1 a1 a2 a3 a4 a5 a6 a7 a8) (hY : pm_Y C x3 x4 pa pb qa qb ra rb key) (hp : pm_pl x6 pa pb) (hq : pm_pl x7 qa qb) (hr : pm_pl x8 ra rb) (hkey : key < 32) (hk : k < 32) (h : ∀ g2 g3, J142 (nI (pm_cn (pm_f C 5) (k + 1))) (pm_sm (pm_f C 5) (k + 1)) (nI (pm_dn (pm_f C 2) (pm_f C 4) (k + 1))) (pm_x13 C pa pb qa qb key (k + 1)) (pm_x14 C key (k + 1)) (pm_la (pm_f C 5) (k + 1)) (x17 + 1) (nI 6) f1 g2 g3 a1 a2 a3 a4 a5 a6 a7 a8) : wL_lawOf_185 post mc ms J133 J142 x3 x4 x6 x7 x8 (nI key) (nI (pm_cn (pm_f C 5) k)) (pm_sm (pm_f C 5) k) (nI (pm_dn (pm_f C 2) (pm_f C 4) k)) (pm_x13 C pa pb qa qb key k) (pm_x14 C key k) (pm_la (pm_f C 5) k) x16 x17 (nI k) (pm_vl (pm_f C 1 k)) kc ks (nI 6) f1 f2 f3 a1 a2 a3 a4 a5 a6 a7 a8 := by
  obtain ⟨E1, E2, E3, E4, E5, E6, E7⟩ := hY k hk
  refine pm_185 hq hk E2 (pm_214 hp hq hk E3 (pm_241 hq hk rfl (pm_268 hr hk E4 (pm_287 hq hr hk E5 (pm_311 hR hp hq hk E6 rfl rfl hkey rfl rfl rfl (fun g2 g3 => ?_))))))
  have e12 := pm_e12 (pm_f C 2 k) (pm_f C 4 k) (pm_dn (pm_f C 2) (pm_f C 4) k)
  have e13 := pm_e13 (C := C) (pa := pa) (pb := pb) (qa := qa) (qb := qb) hk hkey
  have e14 := pm_e14 (C := C) hk hkey
  unfold pm_hr at e13
  rw [pm_bth, pm_bth, e12, e13, e14]
  exact h g2 g3
theorem pm_142 (hR : pm_R C f1 a1 a2 a3 a4 a5 a6 a7 a8) (hY : pm_Y C x3 x4 pa pb qa qb ra rb key) (hp : pm_pl x6 pa pb) (hq : pm_pl x7 qa qb) (hr : pm_pl x8 ra rb) (hkey : key < 32) {i : Nat} (hi : i < 4) (h : ∀ g2 g3, J133 (nI (pm_cn (pm_f C 5) (8 * i + 8))) (pm_sm (pm_f C 5) (8 * i + 8)) (nI (pm_dn (pm_f C 2) (pm_f C 4) (8 * i + 8))) (pm_x13 C pa pb qa qb key (8 * i + 8)) (pm_x14 C key (8 * i + 8)) (pm_la (pm_f C 5) (8 * i + 8)) (nI (i + 1)) (nI 6) f1 g2 g3 a1 a2 a3 a4 a5 a6 a7 a8) :
    ∀ m j, j + m = 8 → ∀ f2 f3, wL_lawOf_142 post mc ms J133 x3 x4 x6 x7 x8 (nI key) (nI i) kc ks (m + 1) (nI (pm_cn (pm_f C 5) (8 * i + j))) (pm_sm (pm_f C 5) (8 * i + j)) (nI (pm_dn (pm_f C 2) (pm_f C 4) (8 * i + j))) (pm_x13 C pa pb qa qb key (8 * i + j)) (pm_x14 C key (8 * i + j)) (pm_la (pm_f C 5) (8 * i + j)) (nI j) (nI 6) f1 f2 f3 a1 a2 a3 a4 a5 a6 a7 a8 := by
  intro m
  induction m with
  | zero =>
    intro j hj f2 f3
    have e : j = 8 := by omega
    subst e
    exact pk_le 8 8 (fun _ => nm_r (nI_1 i) (h _ _)) (fun z => absurd z (by omega))
  | succ m ih =>
    intro j hj f2 f3
    have e18 : 8 * nI i + nI j = nI (8 * i + j) := by
      rw [show (8 : Int32) * nI i = nI (8 * i) from pk_mul 8 i, nI_add]
    have hk : 8 * i + j < 32 := by omega
    refine pk_le 8 j (fun z => absurd z (by omega)) (fun _ => nm_r e18 (pm_inn hp hk ?_))
    rw [pm_shr4 hp]
    have t := pm_step (post := post) (mc := mc) (ms := ms) (J133 := J133) (x16 := nI i) (x17 := nI j) (kc := kc) (ks := ks) (f2 := f2) (f3 := f3) hR hY hp hq hr hkey hk (J142 := wL_lawOf_142 post mc ms J133 x3 x4 x6 x7 x8 (nI key) (nI i) kc ks (m + 1)) (by
      intro g2 g3
      rw [nI_1]
      exact ih (j + 1) (by omega) g2 g3)
    rw [← (hY (8 * i + j) hk).1] at t
    cases e : pm_in pa pb (8 * i + j) with
    | false =>
      rw [e] at t
      exact br_t rfl t
    | true =>
      rw [e] at t
      exact br_f (by decide) t
theorem pm_133 (hR : pm_R C f1 a1 a2 a3 a4 a5 a6 a7 a8) (hY : pm_Y C x3 x4 pa pb qa qb ra rb key) (hp : pm_pl x6 pa pb) (hq : pm_pl x7 qa qb) (hr : pm_pl x8 ra rb) (hkey : key < 32) (h : post 1 ()) : ∀ m i, i + m = 4 → ∀ f2 f3, wL_lawOf_133 post mc ms x3 x4 x6 x7 x8 (nI key) kc ks (m + 1) (nI (pm_cn (pm_f C 5) (8 * i))) (pm_sm (pm_f C 5) (8 * i)) (nI (pm_dn (pm_f C 2) (pm_f C 4) (8 * i))) (pm_x13 C pa pb qa qb key (8 * i)) (pm_x14 C key (8 * i)) (pm_la (pm_f C 5) (8 * i)) (nI i) (nI 6) f1 f2 f3 a1 a2 a3 a4 a5 a6 a7 a8 := by
  intro m
  induction m with
  | zero =>
    intro i hi f2 f3
    have e : i = 4 := by omega
    subst e
    refine pk_le 4 4 (fun _ => ?_) (fun z => absurd z (by omega))
    obtain ⟨E1, E2, E3, E4, E5, E6, E7, E8, E9⟩ := hY key hkey
    have e13 : 0 + pm_th (pm_f C 0 key) + pm_th (pm_f C 3 key) + pm_th (pm_f C 4 key) + pm_th (pm_f C 5 key) + pm_th (pm_f C 1 key) + pm_th (pm_f C 2 key) = pm_x13 C pa pb qa qb key 32 := by
      unfold pm_x13 pm_hr
      rw [if_pos hkey, E7, E8, E9]
      generalize pm_th (pm_f C 1 key) = t1
      generalize pm_th (pm_f C 2 key) = t2
      generalize pm_th (pm_f C 3 key) = t3
      generalize pm_th (pm_f C 4 key) = t4
      generalize pm_th (pm_f C 5 key) = t5
      show (0 : Int32) + 0 + t3 + t4 + t5 + t1 + t2 = t1 + t2 + t3 + t4 + t5
      grind
    have e14 : nI (pm_dn (pm_f C 4) (pm_f C 5) 32) = pm_x14 C key 32 := by
      rw [pm_dn45 (fun k hk => (hY k hk).2.2.2.2.2.1) 32 (by omega), if_pos hkey]
      unfold pm_x14
      cases pm_f C 4 key with
      | none =>
        rw [if_neg (fun z => z.2 rfl)]
        rfl
      | some y =>
        rw [if_pos ⟨hkey, by show ¬ (1 : Int32) = 0; decide⟩]
        rfl
    exact pm_size (v := 5) hR (by omega) (fun g2 g3 => br_t rfl (pm_sum (v := 5) hR (by omega) (fun g2 g3 => br_t rfl (pm_differing (v := 2) (w := 4) hR (by omega) (by omega) (fun g2 g3 => br_t rfl (pm_spread hR hkey (br_t e13 (pm_differing (v := 4) (w := 5) hR (by omega) (by omega) (fun g2 g3 => br_t e14 (pm_meet25 hR (br_t rfl (pm_meet54 hR (br_t rfl (pm_fam3 hR (br_t rfl (pm_fam0 hR (br_t rfl (pm_anc12 hR (br_t rfl (pm_anc21 hR (br_t rfl (pm_parent5 hR (br_t rfl h)))))))))))))))))))))))
  | succ m ih =>
    intro i hi f2 f3
    refine pk_le 4 i (fun z => absurd z (by omega)) (fun _ => ⟨8 + 1, pm_142 hR hY hp hq hr hkey (show i < 4 by omega) (fun g2 g3 => ?_) 8 0 (by omega) f2 f3⟩)
    have e : 8 * i + 8 = 8 * (i + 1) := by omega
    rw [e]
    exact ih (i + 1) (by omega) g2 g3
end
end
section
def pm_X (val step : Int32) (a k : Nat) : Option Int32 := some (val + nI (k - a) * step)
theorem pm_Xe {val step : Int32} {a i : Nat} : pm_X val step a (a + i) = some (val + nI i * step) := by
  unfold pm_X
  rw [Nat.add_sub_cancel_left]
theorem pm_inT {a b i : Nat} (h : i < b) : pm_in a b (a + i) = true := decide_eq_true (by omega)
section
variable (val step : Int32) (pa pb qa qb ra rb key : Nat)
def pm_K1 : Nat → List pm_E := fun k => pm_L2 (pm_in pa pb k) false (pm_X val step pa k) (pm_X 7 (-2) qa k)
def pm_K2 : Nat → List pm_E := fun k => pm_L2 (pm_in pa pb k) (pm_in qa qb k) (pm_X val step pa k) (pm_X 7 (-2) qa k)
def pm_K3 : Nat → List pm_E := fun k => pm_L5 (pm_in pa pb k) (pm_in qa qb k) false false (pm_X val step pa k) (pm_X 7 (-2) qa k) (pm_X val 3 qa k)
def pm_K4 : Nat → List pm_E := fun k => pm_L5 (pm_in pa pb k) (pm_in qa qb k) (pm_in ra rb k) false (pm_X val step pa k) (pm_X 7 (-2) qa k) (pm_X val 3 qa k)
def pm_K5 : Nat → List pm_E := fun k => pm_L5 (pm_in pa pb k) (pm_in qa qb k) (pm_in ra rb k) (decide (k = key)) (pm_X val step pa k) (pm_X 7 (-2) qa k) (pm_X val 3 qa k)
theorem pm_m1' (k : Nat) : pm_mix (fun _ => []) (pm_K1 val step pa pb qa) pa pb k = pm_K1 val step pa pb qa k := by
  unfold pm_mix
  by_cases h : pa ≤ k ∧ k < pa + pb
  · rw [if_pos h]
  · rw [if_neg h]
    have e : pm_in pa pb k = false := decide_eq_false h
    unfold pm_K1
    rw [e]
    rfl
theorem pm_m2' (k : Nat) : pm_mix (pm_K1 val step pa pb qa) (pm_K2 val step pa pb qa qb) qa qb k = pm_K2 val step pa pb qa qb k := by
  unfold pm_mix
  by_cases h : qa ≤ k ∧ k < qa + qb
  · rw [if_pos h]
  · rw [if_neg h]
    have e : pm_in qa qb k = false := decide_eq_false h
    unfold pm_K1 pm_K2
    rw [e]
theorem pm_m3' (k : Nat) : pm_mix (pm_K2 val step pa pb qa qb) (pm_K3 val step pa pb qa qb) qa qb k = pm_K3 val step pa pb qa qb k := by
  unfold pm_mix
  by_cases h : qa ≤ k ∧ k < qa + qb
  · rw [if_pos h]
  · rw [if_neg h]
    have e : pm_in qa qb k = false := decide_eq_false h
    unfold pm_K2 pm_K3
    rw [e]
    cases pm_in pa pb k <;> rfl
theorem pm_m4' (k : Nat) : pm_mix (pm_K3 val step pa pb qa qb) (pm_K4 val step pa pb qa qb ra rb) ra rb k = pm_K4 val step pa pb qa qb ra rb k := by
  unfold pm_mix
  by_cases h : ra ≤ k ∧ k < ra + rb
  · rw [if_pos h]
  · rw [if_neg h]
    have e : pm_in ra rb k = false := decide_eq_false h
    unfold pm_K3 pm_K4
    rw [e]
theorem pm_m5' (k : Nat) : pm_up (pm_K4 val step pa pb qa qb ra rb) key (pm_K5 val step pa pb qa qb ra rb key key) k = pm_K5 val step pa pb qa qb ra rb key k := by
  unfold pm_up
  by_cases h : k = key
  · rw [if_pos h, h]
  · rw [if_neg h]
    have e : decide (k = key) = false := decide_eq_false h
    unfold pm_K4 pm_K5
    rw [e]
theorem pm_ring (y : Int32) : 7 - (2 * y) = 7 + y * (-2) := by grind
theorem pm_YK : pm_Y (pm_K5 val step pa pb qa qb ra rb key) val step pa pb qa qb ra rb key := by
  intro k hk
  have f0 : pm_f (pm_K5 val step pa pb qa qb ra rb key) 0 k = _ := pm_r0 (pm_in pa pb k) (pm_in qa qb k) (pm_in ra rb k) (decide (k = key)) (pm_X val step pa k) (pm_X 7 (-2) qa k) (pm_X val 3 qa k)
  have f1 : pm_f (pm_K5 val step pa pb qa qb ra rb key) 1 k = _ := pm_r1 (pm_in pa pb k) (pm_in qa qb k) (pm_in ra rb k) (decide (k = key)) (pm_X val step pa k) (pm_X 7 (-2) qa k) (pm_X val 3 qa k)
  have f2 : pm_f (pm_K5 val step pa pb qa qb ra rb key) 2 k = _ := pm_r2 (pm_in pa pb k) (pm_in qa qb k) (pm_in ra rb k) (decide (k = key)) (pm_X val step pa k) (pm_X 7 (-2) qa k) (pm_X val 3 qa k)
  have f3 : pm_f (pm_K5 val step pa pb qa qb ra rb key) 3 k = _ := pm_r3 (pm_in pa pb k) (pm_in qa qb k) (pm_in ra rb k) (decide (k = key)) (pm_X val step pa k) (pm_X 7 (-2) qa k) (pm_X val 3 qa k)
  have f4 : pm_f (pm_K5 val step pa pb qa qb ra rb key) 4 k = _ := pm_r4 (pm_in pa pb k) (pm_in qa qb k) (pm_in ra rb k) (decide (k = key)) (pm_X val step pa k) (pm_X 7 (-2) qa k) (pm_X val 3 qa k)
  have f5 : pm_f (pm_K5 val step pa pb qa qb ra rb key) 5 k = _ := pm_r5 (pm_in pa pb k) (pm_in qa qb k) (pm_in ra rb k) (decide (k = key)) (pm_X val step pa k) (pm_X 7 (-2) qa k) (pm_X val 3 qa k)
  rw [f0, f1, f2, f3, f4, f5]
  have gp : pm_in pa pb k = true → nI k - nI pa = nI (k - pa) := fun z => pk_sub (of_decide_eq_true z).1
  have gq : pm_in qa qb k = true → nI k - nI qa = nI (k - qa) := fun z => pk_sub (of_decide_eq_true z).1
  unfold pm_X
  generalize nI k - nI pa = yp at gp ⊢
  generalize nI k - nI qa = yq at gq ⊢
  generalize pm_in pa pb k = ip at gp ⊢
  generalize pm_in qa qb k = iq at gq ⊢
  generalize pm_in ra rb k = ir
  have e3 : iq = true → val + 3 * yq = val + nI (k - qa) * 3 := fun z => by rw [gq z, Int32.mul_comm]
  have e2 : iq = true → 7 - (2 * yq) = 7 + nI (k - qa) * (-2) := fun z => by rw [gq z]; exact pm_ring _
  have e1 : ip = true → val + yp * step = val + nI (k - pa) * step := fun z => by rw [gp z]
  have e5 : ∀ s : Option Int32, (if decide (k = key) = true then none else s) = if k = key then none else s := by
    intro s
    by_cases h : k = key
    · rw [if_pos h, if_pos (decide_eq_true h)]
    · rw [if_neg h, if_neg (fun z => h (of_decide_eq_true z))]
  rw [e5]
  cases ip <;> cases iq <;> cases ir
  · exact ⟨rfl, rfl, rfl, rfl, rfl, rfl, rfl, rfl, rfl⟩
  · exact ⟨rfl, rfl, rfl, rfl, rfl, rfl, rfl, rfl, rfl⟩
  · exact ⟨rfl, e2 rfl, rfl, e3 rfl, rfl, rfl, rfl, rfl, rfl⟩
  · exact ⟨rfl, e2 rfl, rfl, rfl, rfl, rfl, rfl, rfl, rfl⟩
  · exact ⟨e1 rfl, rfl, rfl, rfl, rfl, rfl, rfl, rfl, rfl⟩
  · exact ⟨e1 rfl, rfl, rfl, rfl, rfl, rfl, rfl, rfl, rfl⟩
  · exact ⟨e1 rfl, e2 rfl, rfl, e3 rfl, rfl, rfl, rfl, rfl, rfl⟩
  · exact ⟨e1 rfl, e2 rfl, rfl, rfl, rfl, rfl, rfl, rfl, rfl⟩
end
theorem pm_lawOf {post : Int32 → St0 → Prop} (p0 p1 p2 p3 p4 : Int32) (h : post 1 ()) : wpL_lawOf post 9 2724 () p0 p1 p2 p3 p4 := by
  unfold wpL_lawOf
  refine ⟨by omega, by omega, 8, 2712, by omega, by omega, pm_init (by omega) (by omega) (fun b1 b2 b3 b4 b5 b6 b7 b8 hV hH => pm_plan p0 (fun P pa pb hp => pm_plan p1 (fun Q qa qb hq => pm_plan p2 (fun R ra rb hr => ?_))))⟩
  obtain ⟨key, hkey, ekey⟩ := pk_andE (p2 >>> ((8 : Int32) &&& 31)) (m := 31) 5 (by decide)
  have n1 : ∀ a : Nat, (none : Option Nat) = some a → a < 2 := fun a z => by cases z
  have n2 : ∀ a : Nat, (none : Option Nat) = some a → a < 3 := fun a z => by cases z
  have n3 : ∀ a : Nat, some 1 = some a → a < 4 := fun a z => by cases z; decide
  have n4 : ∀ a : Nat, some 1 = some a → a < 5 := fun a z => by cases z; decide
  have n5 : ∀ a : Nat, some 1 = some a → a < 6 := fun a z => by cases z; decide
  -- version 1
  refine pm_fill (c := 1) (v := 0) (D := pm_K1 p3 p4 pa pb qa) hV hH pm_ob1 hp (by omega) (aft := none) (by decide) n1 (fun i hi => ?_) (fun f1' b1 b2 b3 b4 b5 b6 b7 b8 hV hH => br_t rfl ?_)
  · unfold pm_K1
    rw [pm_inT hi, pm_Xe]
    exact pm_W1 _ _
  replace hH := pm_H_eq hH (fun k _ => pm_m1' p3 p4 pa pb qa k)
  -- version 2
  refine pm_fill (c := 2) (v := 1) (D := pm_K2 p3 p4 pa pb qa qb) hV hH pm_ob2 hq (by omega) (aft := none) (by decide) n2 (fun i hi => ?_) (fun f1' b1 b2 b3 b4 b5 b6 b7 b8 hV hH => br_t rfl ?_)
  · unfold pm_K1 pm_K2
    rw [pm_inT hi, pm_Xe (val := 7)]
    exact pm_W2 _ _ _
  replace hH := pm_H_eq hH (fun k _ => pm_m2' p3 p4 pa pb qa qb k)
  -- version 3
  refine pm_fill (c := 3) (v := 0) (D := pm_K3 p3 p4 pa pb qa qb) hV hH pm_ob3 hq (by omega) (aft := some 1) (by decide) n3 (fun i hi => ?_) (fun f1' b1 b2 b3 b4 b5 b6 b7 b8 hV hH => br_t rfl ?_)
  · unfold pm_K2 pm_K3
    rw [pm_inT hi, pm_Xe (val := p3) (step := 3)]
    exact pm_W3 _ _ _ _
  replace hH := pm_H_eq hH (fun k _ => pm_m3' p3 p4 pa pb qa qb k)
  -- version 4
  refine pm_graft (c := 4) (v := 3) (w := 2) (D := pm_K4 p3 p4 pa pb qa qb ra rb) hV hH pm_ob4 (by omega) hr (by omega) (aft := some 1) (by decide) n4 (fun i hi => ?_) (fun f1' f2' f3' b1 b2 b3 b4 b5 b6 b7 b8 hV hH => br_t rfl (nm_r ekey ?_))
  · unfold pm_K3 pm_K4
    rw [pm_inT hi]
    exact pm_W4 _ _ _ _ _
  replace hH := pm_H_eq hH (fun k _ => pm_m4' p3 p4 pa pb qa qb ra rb k)
  -- version 5
  refine pm_remove (c := 5) (v := 4) (d' := pm_K5 p3 p4 pa pb qa qb ra rb key key) hV hH pm_ob5 hkey (by omega) (aft := some 1) (by decide) n5 ?_ (fun f1' b1 b2 b3 b4 b5 b6 b7 b8 hV hH => br_t rfl ⟨4 + 1, ?_⟩)
  · unfold pm_K4 pm_K5
    rw [decide_eq_true (rfl : key = key)]
    exact pm_W5 _ _ _ _ _ _
  replace hH := pm_H_eq hH (fun k _ => pm_m5' p3 p4 pa pb qa qb ra rb key k)
  exact pm_133 ⟨hV, pm_H_mono hH (Nat.le_refl _) (by omega)⟩ (pm_YK p3 p4 pa pb qa qb ra rb key) hp hq hr hkey h 4 0 (by omega) _ _
theorem pm_cell {post : Int32 → Prop} {L : Nat} {xs : Nat → Int32} (hL : L ≤ 5) (i : Nat) (hi : i < 5) (h : ∀ r, post r) : wpL_cellAt post L xs () (nI i) :=
  pk_le L i (fun _ => h _) (fun z => ⟨pk_in i L z, h _⟩)
theorem i_vc (xs : Nat → Int32) (L : Nat) (hL : L ≤ 5) : wpL_law (fun r => r = 1) L xs := by
  unfold wpL_law
  refine pm_cell hL 0 (by omega) (fun r1 => pm_cell hL 1 (by omega) (fun r2 => pm_cell hL 2 (by omega) (fun r3 => pm_cell hL 3 (by omega) (fun r4 => pm_cell hL 4 (by omega) (fun r5 => ⟨9, 2724, by omega, by omega, ?_⟩)))))
  exact pm_lawOf r1 r2 r3 r4 r5 rfl
end
