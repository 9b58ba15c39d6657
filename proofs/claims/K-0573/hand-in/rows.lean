section
theorem pk_us {f : Nat → Int32} {k : Nat} {x : Int32} : upd f k x k = x := if_pos rfl
theorem pk_un {f : Nat → Int32} {k j : Nat} {x : Int32} (h : j ≠ k) : upd f k x j = f j := if_neg h
theorem pk_sub {a b : Nat} (h : b ≤ a) : nI a - nI b = nI (a - b) := by
  obtain ⟨c, rfl⟩ : ∃ c, a = c + b := ⟨a - b, by omega⟩
  rw [← nI_add, Int32.add_sub_cancel, Nat.add_sub_cancel]
theorem pk_mul (a b : Nat) : nI a * nI b = nI (a * b) := (Int32.ofNat_mul a b).symm
theorem pk_nb (z : Int32) : narrow .byte (.int z.toInt8.toInt32) = .int z.toInt8.toInt32 := congrArg Value.int (by simp)
theorem pk_fb (r : Int32) : fits .byte (.int r.toInt8.toInt32) = true := by
  have ⟨a, b⟩ := lg_i2b_range r
  have h1 : (-128 : Int32).toInt = -128 := by decide
  have h2 : (127 : Int32).toInt = 127 := by decide
  simp only [fits, Bool.and_eq_true, decide_eq_true_eq, Int32.le_iff_toInt_le, h1, h2]
  omega
theorem pk_vb (z : Int32) : vp_nar .byte z.toInt8.toInt32 = z.toInt8.toInt32 := by rw [vp_nar_byte]; simp
theorem pk_vs (z : Int32) : vp_nar .short z.toInt16.toInt32 = z.toInt16.toInt32 := by rw [vp_nar_short]; simp

/-! small numbers -/
theorem lr_i8 : ∀ n, n < 8 → (nI n).toInt8.toInt32 = nI n := by decide +kernel
theorem lr_i16 : ∀ n, n < 8 → (nI n).toInt16.toInt32 = nI n := by decide +kernel
theorem lr_m1 : (-1 : Int32).toInt8.toInt32 = -1 := by decide +kernel
theorem lr_z8 : (0 : Int32).toInt8.toInt32 = 0 := by decide +kernel
theorem lr_ne1 : ∀ n, n < 8 → ¬ nI n = -1 := by decide +kernel
theorem lr_le6 : ∀ n, n < 6 → ¬ (6 : Int32) ≤ nI n := by decide +kernel
theorem lr_le4 : ∀ n, n < 4 → ¬ (4 : Int32) ≤ nI n := by decide +kernel
theorem lr_le8 : ∀ n, n < 8 → ¬ (8 : Int32) ≤ nI n := by decide +kernel
theorem lr_neg : ∀ n, n < 8 → ¬ nI n < 0 := by decide +kernel
theorem lr_lt3 : ∀ n, n < 4 → ¬ (3 : Int32) < nI n := by decide +kernel
theorem lr_3 : ∀ n, n < 4 → nI n ≤ 3 := by decide +kernel
theorem lr_7 : ∀ n, n < 8 → nI n ≤ 7 := by decide +kernel
theorem lr_ix (r c : Nat) : nI r * 8 + nI c = nI (r * 8 + c) :=
  (congrArg (fun x => x + nI c) (pk_mul r 8)).trans (nI_add (r * 8) c)
theorem lr_uu (f : Nat → Int32) (k : Nat) (a b : Int32) : upd (upd f k a) k b = upd f k b := by
  funext j
  by_cases h : j = k
  · subst h; rw [pk_us, pk_us]
  · rw [pk_un h, pk_un h, pk_un h]
theorem lr_of3 {x : Int32} (h : ¬ x < 0) (h3 : ¬ 3 < x) : ∃ r : Nat, r < 4 ∧ x = nI r := by
  obtain ⟨j, hj, e⟩ := nI_of2 (M := 3) (n := 3) (by decide) h (Int32.not_lt.mp h3)
  exact ⟨j, by omega, e⟩
theorem lr_of7 {x : Int32} (h : ¬ x < 0) (h7 : x ≤ 7) : ∃ r : Nat, r < 8 ∧ x = nI r := by
  obtain ⟨j, hj, e⟩ := nI_of2 (M := 7) (n := 7) (by decide) h h7
  exact ⟨j, by omega, e⟩

/-! chains: a list of nodes, its first as a link, its last as a link -/
def lr_hv : List Nat → Int32
  | [] => -1
  | n :: _ => nI n
def lr_lv (P : List Nat) : Int32 := lr_hv P.reverse
def lr_ch (nx : Nat → Int32) : List Nat → Prop
  | [] => True
  | n :: t => n < 6 ∧ nx n = lr_hv t ∧ lr_ch nx t
theorem lr_lv_app (Q : List Nat) (p : Nat) : lr_lv (Q ++ [p]) = nI p := by
  unfold lr_lv
  rw [List.reverse_append]
  rfl
theorem lr_split (P : List Nat) : P = [] ∨ ∃ Q p, P = Q ++ [p] := by
  rcases List.eq_nil_or_concat P with h | ⟨Q, p, h⟩
  · exact Or.inl h
  · exact Or.inr ⟨Q, p, by rw [h, List.concat_eq_append]⟩
theorem lr_hvb {nx : Nat → Int32} {l : List Nat} (h : lr_ch nx l) : (lr_hv l).toInt8.toInt32 = lr_hv l := by
  cases l with
  | nil => exact lr_m1
  | cons n t => exact lr_i8 n (by have := h.1; omega)
theorem lr_hvn {nx : Nat → Int32} {l : List Nat} (h : lr_ch nx l) : vp_nar .byte (lr_hv l) = lr_hv l := by
  rw [vp_nar_byte]; exact lr_hvb h
theorem lr_ch_fr {nx nx' : Nat → Int32} : ∀ l : List Nat, (∀ m, m ∈ l → nx' m = nx m) → lr_ch nx l → lr_ch nx' l
  | [], _, _ => trivial
  | n :: t, h, ⟨a, b, c⟩ => ⟨a, (h n (List.mem_cons_self ..)).trans b, lr_ch_fr t (fun m hm => h m (List.mem_cons_of_mem _ hm)) c⟩
theorem lr_ch_lt {nx : Nat → Int32} : ∀ l : List Nat, lr_ch nx l → ∀ m, m ∈ l → m < 6
  | [], _, m, hm => nomatch hm
  | n :: t, ⟨a, _, c⟩, m, hm => by
    rcases List.mem_cons.mp hm with e | e
    · rw [e]; exact a
    · exact lr_ch_lt t c m e
theorem lr_ch_r {nx : Nat → Int32} (S : List Nat) : ∀ P : List Nat, lr_ch nx (P ++ S) → lr_ch nx S
  | [], h => h
  | _ :: t, h => lr_ch_r S t h.2.2
theorem lr_hv_app (p : Nat) (S S' : List Nat) : ∀ Q : List Nat, lr_hv (Q ++ p :: S) = lr_hv (Q ++ p :: S')
  | [] => rfl
  | _ :: _ => rfl
theorem lr_ch_glue {nx nx' : Nat → Int32} (p : Nat) (S S' : List Nat) (hp : nx' p = lr_hv S') (hS : lr_ch nx' S') :
    ∀ Q : List Nat, lr_ch nx (Q ++ p :: S) → (∀ m, m ∈ Q → nx' m = nx m) → lr_ch nx' (Q ++ p :: S')
  | [], h, _ => ⟨h.1, hp, hS⟩
  | q :: t, h, hq => ⟨h.1, (hq q (List.mem_cons_self ..)).trans (h.2.1.trans (lr_hv_app p S S' t)),
      lr_ch_glue p S S' hp hS t h.2.2 (fun m hm => hq m (List.mem_cons_of_mem _ hm))⟩
end
section
/-! what a row holds: each node has a column, its cell holds its value (not 0); each cell that isn't 0 has a node; columns rise -/
def lr_C (r : Nat) (l : List Nat) (cl vl ce : Nat → Int32) : Prop :=
  (∀ n, n ∈ l → ∃ c, c < 8 ∧ cl n = nI c ∧ ce (r * 8 + c) = vl n ∧ ¬ vl n = 0) ∧
  (∀ c, c < 8 → ¬ ce (r * 8 + c) = 0 → ∃ n, n ∈ l ∧ cl n = nI c) ∧
  l.Pairwise (fun a b => cl a < cl b)
def lr_R (r : Nat) (l : List Nat) (hd nx cl vl ce cn : Nat → Int32) : Prop :=
  hd r = lr_hv l ∧ lr_ch nx l ∧ lr_C r l cl vl ce ∧ cn r = nI l.length
def lr_S (L : Nat → List Nat) (F : List Nat) (fr : Int32) (hd nx cl vl : Nat → Int32) (us : Int32) (ce cn : Nat → Int32) : Prop :=
  (∀ r, r < 4 → lr_R r (L r) hd nx cl vl ce cn) ∧
  fr = lr_hv F ∧ lr_ch nx F ∧ F.Nodup ∧
  (∀ r s n, r < 4 → s < 4 → n ∈ L r → n ∈ L s → r = s) ∧
  (∀ r n, r < 4 → n ∈ L r → ¬ n ∈ F) ∧
  (L 0).length + (L 1).length + (L 2).length + (L 3).length + F.length = 6 ∧
  us = nI (6 - F.length)
/-- four sorted chains and the free chain share the six nodes; the chains hold what the cells hold -/
def i_Rel (k : Nat) (u : SX) (v : SY) : Prop :=
  ∃ L F, lr_S L F u.1 u.2.1 u.2.2.1 u.2.2.2.1 u.2.2.2.2 v.1 v.2.1 v.2.2
theorem i_up {k : Nat} {u : SX} {v : SY} (h : i_Rel k u v) : i_Rel (k + 4) u v := h

theorem lr_C_fr {r : Nat} {l : List Nat} {cl vl ce cl' vl' ce' : Nat → Int32} (h : lr_C r l cl vl ce)
    (e3 : ∀ m, m ∈ l → cl' m = cl m) (e4 : ∀ m, m ∈ l → vl' m = vl m)
    (e5 : ∀ c, c < 8 → ce' (r * 8 + c) = ce (r * 8 + c)) : lr_C r l cl' vl' ce' := by
  obtain ⟨c, d, e⟩ := h
  refine ⟨fun n hn => ?_, fun k hk hz => ?_, ?_⟩
  · obtain ⟨k, hk, h1, h2, h3⟩ := c n hn
    exact ⟨k, hk, (e3 n hn).trans h1, by rw [e5 k hk, e4 n hn]; exact h2, by rw [e4 n hn]; exact h3⟩
  · rw [e5 k hk] at hz
    obtain ⟨n, hn, h⟩ := d k hk hz
    exact ⟨n, hn, (e3 n hn).trans h⟩
  · exact e.imp_of_mem (fun ha hb h => by rw [e3 _ ha, e3 _ hb]; exact h)
theorem lr_R_fr {r : Nat} {l : List Nat} {hd nx cl vl ce cn hd' nx' cl' vl' ce' cn' : Nat → Int32}
    (h : lr_R r l hd nx cl vl ce cn) (e1 : hd' r = hd r)
    (e2 : ∀ m, m ∈ l → nx' m = nx m ∧ cl' m = cl m ∧ vl' m = vl m)
    (e5 : ∀ c, c < 8 → ce' (r * 8 + c) = ce (r * 8 + c)) (e6 : cn' r = cn r) : lr_R r l hd' nx' cl' vl' ce' cn' :=
  ⟨e1.trans h.1, lr_ch_fr l (fun m hm => (e2 m hm).1) h.2.1,
    lr_C_fr h.2.2.1 (fun m hm => (e2 m hm).2.1) (fun m hm => (e2 m hm).2.2) e5, e6.trans h.2.2.2⟩

/-- a node taken out of a row -/
theorem lr_C_del {r c n : Nat} {P S : List Nat} {cl vl ce cl' vl' : Nat → Int32} (h : lr_C r (P ++ n :: S) cl vl ce)
    (hc : c < 8) (hn : cl n = nI c) (hP : ∀ m, m ∈ P → cl m < nI c) (hS : ∀ m, m ∈ S → nI c < cl m)
    (e3 : ∀ m, m ∈ P ++ S → cl' m = cl m) (e4 : ∀ m, m ∈ P ++ S → vl' m = vl m) :
    lr_C r (P ++ S) cl' vl' (upd ce (r * 8 + c) 0) := by
  obtain ⟨a, b, d⟩ := h
  have hne : ∀ m, m ∈ P ++ S → ¬ cl m = nI c := by
    intro m hm e
    rcases List.mem_append.mp hm with q | q
    · have := hP m q; rw [e] at this; exact Int32.lt_irrefl this
    · have := hS m q; rw [e] at this; exact Int32.lt_irrefl this
  have hin : ∀ m, m ∈ P ++ S → m ∈ P ++ n :: S := by
    intro m hm
    rcases List.mem_append.mp hm with q | q
    · exact List.mem_append.mpr (Or.inl q)
    · exact List.mem_append.mpr (Or.inr (List.mem_cons_of_mem _ q))
  refine ⟨fun m hm => ?_, fun k hk hz => ?_, ?_⟩
  · obtain ⟨k, hk, h1, h2, h3⟩ := a m (hin m hm)
    have hkc : k ≠ c := by
      intro e; rw [e] at h1; exact hne m hm h1
    refine ⟨k, hk, (e3 m hm).trans h1, ?_, by rw [e4 m hm]; exact h3⟩
    rw [pk_un (by omega), e4 m hm]
    exact h2
  · have hkc : k ≠ c := by
      intro e; rw [e] at hz; exact hz pk_us
    rw [pk_un (by omega)] at hz
    obtain ⟨m, hm, h1⟩ := b k hk hz
    have hmn : m ≠ n := by
      intro e
      rw [e, hn, nI_eq (by omega) (by omega)] at h1
      exact hkc h1.symm
    have hm' : m ∈ P ++ S := by
      rcases List.mem_append.mp hm with q | q
      · exact List.mem_append.mpr (Or.inl q)
      · rcases List.mem_cons.mp q with q | q
        · exact absurd q hmn
        · exact List.mem_append.mpr (Or.inr q)
    exact ⟨m, hm', (e3 m hm').trans h1⟩
  · rw [List.pairwise_append, List.pairwise_cons] at d
    have d' : (P ++ S).Pairwise (fun a b => cl a < cl b) :=
      List.pairwise_append.mpr ⟨d.1, d.2.1.2, fun x hx y hy => d.2.2 x hx y (List.mem_cons_of_mem _ hy)⟩
    exact d'.imp_of_mem (fun ha hb h => by rw [e3 _ ha, e3 _ hb]; exact h)
/-- a node put into a row -/
theorem lr_C_ins {r c n : Nat} {v : Int32} {P S : List Nat} {cl vl ce cl' vl' : Nat → Int32} (h : lr_C r (P ++ S) cl vl ce)
    (hc : c < 8) (hv : ¬ v = 0) (hP : ∀ m, m ∈ P → cl m < nI c) (hS : ∀ m, m ∈ S → nI c < cl m)
    (hn : cl' n = nI c) (hw : vl' n = v)
    (e3 : ∀ m, m ∈ P ++ S → cl' m = cl m) (e4 : ∀ m, m ∈ P ++ S → vl' m = vl m) :
    lr_C r (P ++ n :: S) cl' vl' (upd ce (r * 8 + c) v) := by
  obtain ⟨a, b, d⟩ := h
  have hne : ∀ m, m ∈ P ++ S → ¬ cl m = nI c := by
    intro m hm e
    rcases List.mem_append.mp hm with q | q
    · have := hP m q; rw [e] at this; exact Int32.lt_irrefl this
    · have := hS m q; rw [e] at this; exact Int32.lt_irrefl this
  have hin : ∀ m, m ∈ P ++ S → m ∈ P ++ n :: S := by
    intro m hm
    rcases List.mem_append.mp hm with q | q
    · exact List.mem_append.mpr (Or.inl q)
    · exact List.mem_append.mpr (Or.inr (List.mem_cons_of_mem _ q))
  have hnin : n ∈ P ++ n :: S := List.mem_append.mpr (Or.inr (List.mem_cons_self ..))
  have hor : ∀ m, m ∈ P ++ n :: S → m = n ∨ m ∈ P ++ S := by
    intro m hm
    rcases List.mem_append.mp hm with q | q
    · exact Or.inr (List.mem_append.mpr (Or.inl q))
    · rcases List.mem_cons.mp q with q | q
      · exact Or.inl q
      · exact Or.inr (List.mem_append.mpr (Or.inr q))
  have eP : ∀ m, m ∈ P → cl' m = cl m := fun m hm => e3 m (List.mem_append.mpr (Or.inl hm))
  have eS : ∀ m, m ∈ S → cl' m = cl m := fun m hm => e3 m (List.mem_append.mpr (Or.inr hm))
  refine ⟨fun m hm => ?_, fun k hk hz => ?_, ?_⟩
  · rcases hor m hm with e | q
    · rw [e]
      exact ⟨c, hc, hn, by rw [pk_us, hw], by rw [hw]; exact hv⟩
    · obtain ⟨k, hk, h1, h2, h3⟩ := a m q
      have hkc : k ≠ c := by
        intro e; rw [e] at h1; exact hne m q h1
      refine ⟨k, hk, (e3 m q).trans h1, ?_, by rw [e4 m q]; exact h3⟩
      rw [pk_un (by omega), e4 m q]
      exact h2
  · by_cases hkc : k = c
    · rw [hkc]
      exact ⟨n, hnin, hn⟩
    · rw [pk_un (by omega)] at hz
      obtain ⟨m, hm, h1⟩ := b k hk hz
      exact ⟨m, hin m hm, (e3 m hm).trans h1⟩
  · rw [List.pairwise_append] at d
    refine List.pairwise_append.mpr ⟨?_, List.pairwise_cons.mpr ⟨fun y hy => ?_, ?_⟩, fun x hx y hy => ?_⟩
    · exact d.1.imp_of_mem (fun ha hb h => by rw [eP _ ha, eP _ hb]; exact h)
    · show cl' n < cl' y
      rw [hn, eS y hy]; exact hS y hy
    · exact d.2.1.imp_of_mem (fun ha hb h => by rw [eS _ ha, eS _ hb]; exact h)
    · show cl' x < cl' y
      rcases List.mem_cons.mp hy with e | q
      · rw [e, hn, eP x hx]; exact hP x hx
      · rw [eP x hx, eS y q]; exact d.2.2 x hx y q

/-! one row of four is exchanged -/
def lr_up (L : Nat → List Nat) (r : Nat) (l : List Nat) : Nat → List Nat := fun s => if s = r then l else L s
theorem lr_up_s {L : Nat → List Nat} {r : Nat} {l : List Nat} : lr_up L r l r = l := if_pos rfl
theorem lr_up_n {L : Nat → List Nat} {r s : Nat} {l : List Nat} (h : s ≠ r) : lr_up L r l s = L s := if_neg h
theorem lr_len {L : Nat → List Nat} {r : Nat} {l : List Nat} (hr : r < 4) :
    (lr_up L r l 0).length + (lr_up L r l 1).length + (lr_up L r l 2).length + (lr_up L r l 3).length + (L r).length
      = (L 0).length + (L 1).length + (L 2).length + (L 3).length + l.length := by
  rcases (by omega : r = 0 ∨ r = 1 ∨ r = 2 ∨ r = 3) with rfl | rfl | rfl | rfl <;> simp [lr_up] <;> omega
theorem lr_asm {L : Nat → List Nat} {F : List Nat} {fr us fr' us' : Int32} {hd nx cl vl ce cn hd' nx' cl' vl' ce' cn' : Nat → Int32}
    {r : Nat} {l F' : List Nat} (h : lr_S L F fr hd nx cl vl us ce cn) (hr : r < 4)
    (hR : lr_R r l hd' nx' cl' vl' ce' cn')
    (e1 : ∀ s, s ≠ r → hd' s = hd s)
    (e2 : ∀ m, ¬ m ∈ L r → ¬ m ∈ F → nx' m = nx m ∧ cl' m = cl m ∧ vl' m = vl m)
    (e5 : ∀ s c, s ≠ r → c < 8 → ce' (s * 8 + c) = ce (s * 8 + c))
    (e6 : ∀ s, s ≠ r → cn' s = cn s)
    (hF : fr' = lr_hv F') (hFc : lr_ch nx' F') (hFn : F'.Nodup)
    (h1 : ∀ m, m ∈ l → m ∈ L r ∨ m ∈ F) (h2 : ∀ m, m ∈ F' → m ∈ L r ∨ m ∈ F) (h3 : ∀ m, m ∈ l → ¬ m ∈ F')
    (hlen : l.length + F'.length = (L r).length + F.length) (hus : us' = nI (6 - F'.length)) :
    lr_S (lr_up L r l) F' fr' hd' nx' cl' vl' us' ce' cn' := by
  obtain ⟨a1, a2, a3, a4, a5, a6, a7, a8⟩ := h
  refine ⟨fun s hs => ?_, hF, hFc, hFn, fun s t n hs ht ms mt => ?_, fun s n hs ms => ?_, ?_, hus⟩
  · by_cases e : s = r
    · rw [e, lr_up_s]; exact hR
    · rw [lr_up_n e]
      refine lr_R_fr (a1 s hs) (e1 s e) (fun m hm => e2 m (fun z => e (a5 s r m hs hr hm z)) (a6 s m hs hm)) (fun c hc => e5 s c e hc) (e6 s e)
  · by_cases e : s = r
    · by_cases e' : t = r
      · rw [e, e']
      · rw [e, lr_up_s] at ms
        rw [lr_up_n e'] at mt
        rcases h1 n ms with q | q
        · exact absurd (a5 t r n ht hr mt q) e'
        · exact absurd q (a6 t n ht mt)
    · rw [lr_up_n e] at ms
      by_cases e' : t = r
      · rw [e', lr_up_s] at mt
        rcases h1 n mt with q | q
        · exact absurd (a5 s r n hs hr ms q) e
        · exact absurd q (a6 s n hs ms)
      · rw [lr_up_n e'] at mt
        exact a5 s t n hs ht ms mt
  · by_cases e : s = r
    · rw [e, lr_up_s] at ms
      exact h3 n ms
    · rw [lr_up_n e] at ms
      intro z
      rcases h2 n z with q | q
      · exact e (a5 s r n hs hr ms q)
      · exact a6 s n hs ms q
  · have := lr_len (L := L) (l := l) hr
    omega
end
section
/-! the constructors -/
def lr_nx (n : Nat) : Int32 := if n < 5 then nI (n + 1) else -1
theorem lr_i80 {post : SX → Prop} {J : Int32 → (Nat → Int32) → (Nat → Int32) → (Nat → Int32) → (Nat → Int32) → Prop}
    {i : Nat} {z f : Int32} {hd nx cl vl : Nat → Int32} (hi : i < 6)
    (H : ∀ cl' vl', J (nI (i + 1)) hd (upd nx i z.toInt8.toInt32) cl' vl') :
    wX_init_80 post J (nI i) z (nI i) f hd nx cl vl := by
  have hv : vp_in (nI i) 6 := vp_in_nI hi (by omega)
  have hc : (nI i).toNatClampNeg = i := nI_clamp (by omega)
  unfold wX_init_80
  refine ⟨hv, fun a ea => ⟨hv, fun b eb => ⟨hv, fun c ec => fun x ex => ?_⟩⟩⟩
  rw [ex, nI_1, ea, hc, pk_vb]
  exact H _ _
theorem lr_i57 {post : SX → Prop} {f : Int32} {hd : Nat → Int32}
    (H : ∀ nx cl vl, (∀ n, n < 6 → nx n = lr_nx n) → post (0, hd, nx, cl, vl)) :
    ∀ d i : Nat, i + d = 6 → ∀ nx cl vl : Nat → Int32, (∀ n, n < i → nx n = lr_nx n) → wX_init_57 post f (d + 1) (nI i) hd nx cl vl := by
  intro d
  induction d with
  | zero =>
    intro i hi nx cl vl hn
    obtain rfl : i = 6 := by omega
    exact br_t (by decide +kernel : (6 : Int32) ≤ nI 6) (H nx cl vl hn)
  | succ d ih =>
    intro i hi nx cl vl hn
    refine br_f (lr_le6 i (by omega)) (br_c (fun h5 => lr_i80 (by omega) fun cl' vl' => ih (i + 1) (by omega) _ _ _ (lt_s (fun a ha => ?_) ?_)) (fun h5 => lr_i80 (by omega) fun cl' vl' => ih (i + 1) (by omega) _ _ _ (lt_s (fun a ha => ?_) ?_)))
    · rw [pk_un (by omega)]; exact hn a ha
    · rw [pk_us]
      have h : 5 ≤ i := (nI_leI (a := 5) (by omega) (by omega)).mp h5
      obtain rfl : i = 5 := by omega
      exact lr_m1
    · rw [pk_un (by omega)]; exact hn a ha
    · rw [pk_us]
      have h : ¬ 5 ≤ i := fun z => h5 ((nI_leI (a := 5) (by omega) (by omega)).mpr z)
      unfold lr_nx
      rw [if_pos (by omega), nI_1]
      exact lr_i8 _ (by omega)
theorem lr_i37 {post : SX → Prop} {f : Int32} {nx cl vl : Nat → Int32}
    (H : ∀ hd nx cl vl, (∀ r, r < 4 → hd r = -1) → (∀ n, n < 6 → nx n = lr_nx n) → post (0, hd, nx, cl, vl)) :
    ∀ d i : Nat, i + d = 4 → ∀ hd : Nat → Int32, (∀ n, n < i → hd n = -1) → wX_init_37 post f (d + 1) (nI i) hd nx cl vl := by
  intro d
  induction d with
  | zero =>
    intro i hi hd hn
    obtain rfl : i = 4 := by omega
    exact br_t (by decide +kernel : (4 : Int32) ≤ nI 4) ⟨7, lr_i57 (fun nx cl vl h => H hd nx cl vl hn h) 6 0 rfl nx cl vl (fun n z => absurd z (Nat.not_lt_zero n))⟩
  | succ d ih =>
    intro i hi hd hn
    have hv : vp_in (nI i) 4 := vp_in_nI (by omega) (by omega)
    have hc : (nI i).toNatClampNeg = i := nI_clamp (by omega)
    refine br_f (lr_le4 i (by omega)) ⟨hv, fun a ea x ex => ?_⟩
    rw [ex, nI_1, ea, hc, vp_nar_byte, lr_m1]
    refine ih (i + 1) (by omega) _ (lt_s (fun b hb => ?_) pk_us)
    rw [pk_un (by omega)]; exact hn b hb
theorem i_vc0 : wpX_init (fun u => wpY_init (fun v => i_Rel 0 u v)) := by
  refine ⟨5, lr_i37 (fun hd nx cl vl h1 h2 => ?_) 4 0 rfl _ (fun n z => absurd z (Nat.not_lt_zero n))⟩
  refine ⟨fun _ => [], [0, 1, 2, 3, 4, 5], fun r hr => ⟨h1 r hr, trivial, ⟨fun n hn => (nomatch hn), fun c hc hz => absurd rfl hz, List.Pairwise.nil⟩, rfl⟩, rfl, ?_, by decide, fun r s n _ _ z => (nomatch z), fun r n _ z => (nomatch z), rfl, rfl⟩
  exact ⟨by decide, h2 0 (by decide), by decide, h2 1 (by decide), by decide, h2 2 (by decide), by decide, h2 3 (by decide), by decide, h2 4 (by decide), by decide, h2 5 (by decide), trivial⟩

/-! get -/
theorem lr_get {post : Int32 → Prop} {p1 r f : Int32} {hd nx cl vl : Nat → Int32} (hp : post r) :
    ∀ (l : List Nat) (n : Nat), l.length < n → lr_ch nx l → (∀ m, m ∈ l → cl m = p1 → vl m = r) →
      ((∀ m, m ∈ l → ¬ cl m = p1) → r = 0) → wX_get_28 post p1 f hd nx cl vl n (lr_hv l) := by
  intro l
  induction l with
  | nil =>
    intro n hn hc h1 h2
    obtain ⟨k, rfl⟩ : ∃ k, n = k + 1 := ⟨n - 1, by simp only [List.length_nil] at hn; omega⟩
    have e : r = 0 := h2 (fun m hm => nomatch hm)
    rw [e] at hp
    exact br_t rfl hp
  | cons m t ih =>
    intro n hn hc h1 h2
    obtain ⟨k, rfl⟩ : ∃ k, n = k + 1 := ⟨n - 1, by omega⟩
    have hm : m < 6 := hc.1
    have hv : vp_in (nI m) 6 := vp_in_nI hm (by omega)
    have hcl : (nI m).toNatClampNeg = m := nI_clamp (by omega)
    show wX_get_28 post p1 f hd nx cl vl (k + 1) (nI m)
    refine br_f (lr_ne1 m (by omega)) ⟨hv, ?_⟩
    rw [hcl]
    by_cases e : cl m = p1
    · refine br_t e ⟨hv, ?_⟩
      rw [h1 m (List.mem_cons_self ..) e]; exact hp
    · refine br_f e ⟨hv, nm_r hc.2.1 (ih k (by simp only [List.length_cons] at hn; omega) hc.2.2 (fun q hq => h1 q (List.mem_cons_of_mem _ hq)) (fun h => h2 ?_))⟩
      intro q hq
      rcases List.mem_cons.mp hq with z | z
      · rw [z]; exact e
      · exact h q z
theorem i_vc_get {k : Nat} {u : SX} {v : SY} (I : i_Rel k u v) (hk : k + 4 ≤ 2048) (v1 : Int32) (v2 : Int32) : wpX_get (fun r => wpY_get (fun r' => r' = r ∧ i_Rel (k + 4) u v) v v1 v2) u v1 v2 := by
  have J := i_up I
  generalize i_Rel (k + 4) u v = Q at J
  obtain ⟨f, hd, nx, cl, vl⟩ := u
  obtain ⟨us, ce, cn⟩ := v
  by_cases a : v1 < 0
  · exact br_t a (br_t a ⟨rfl, J⟩)
  by_cases b : 3 < v1
  · exact br_f a (br_t b (br_f a (br_t b ⟨rfl, J⟩)))
  by_cases c : v2 < 0
  · exact br_f a (br_f b (br_t c (br_f a (br_f b (br_t c ⟨rfl, J⟩)))))
  by_cases d : v2 ≤ 7
  · obtain ⟨r, hr, rfl⟩ := lr_of3 a b
    obtain ⟨c', hc, rfl⟩ := lr_of7 c d
    obtain ⟨L, F, h⟩ := I
    have h : lr_S L F f hd nx cl vl us ce cn := h
    obtain ⟨h1, h2, h3, h4⟩ := h.1 r hr
    have hv : vp_in (nI r) 4 := vp_in_nI hr (by omega)
    have hv2 : vp_in (nI r * 8 + nI c') 32 := by rw [lr_ix]; exact vp_in_nI (by omega) (by omega)
    have hcr : (nI r).toNatClampNeg = r := nI_clamp (by omega)
    have hx : (nI r * 8 + nI c').toNatClampNeg = r * 8 + c' := by rw [lr_ix]; exact nI_clamp (by omega)
    refine br_f a (br_f b (br_f c (br_t d ⟨hv, nm_r ((congrArg hd hcr).trans h1) ⟨(L r).length + 1, lr_get (r := ce (r * 8 + c')) ?_ (L r) _ (Nat.lt_succ_self _) h2 (fun m hm e => ?_) (fun hz => ?_)⟩⟩)))
    · refine br_f a (br_f b (br_f c (br_t d ⟨hv2, ?_, J⟩)))
      rw [hx]
    · obtain ⟨q, hq, e1, e2, _⟩ := h3.1 m hm
      have : q = c' := (nI_eq (by omega) (by omega)).mp (e1.symm.trans e)
      rw [this] at e2
      exact e2.symm
    · refine Classical.byContradiction fun z => ?_
      obtain ⟨m, hm, e⟩ := h3.2.1 c' hc z
      exact hz m hm e
  · exact br_f a (br_f b (br_f c (br_f d (br_f a (br_f b (br_f c (br_f d ⟨rfl, J⟩)))))))

/-! rowCount -/
theorem lr_cnt {post : Int32 → Prop} {f : Int32} {hd nx cl vl : Nat → Int32} :
    ∀ (l : List Nat) (n i : Nat), l.length < n → lr_ch nx l → post (nI (i + l.length)) →
      wX_rowCount_20 post f hd nx cl vl n (nI i) (lr_hv l) := by
  intro l
  induction l with
  | nil =>
    intro n i hn hc hp
    obtain ⟨k, rfl⟩ : ∃ k, n = k + 1 := ⟨n - 1, by simp only [List.length_nil] at hn; omega⟩
    exact br_t rfl hp
  | cons m t ih =>
    intro n i hn hc hp
    obtain ⟨k, rfl⟩ : ∃ k, n = k + 1 := ⟨n - 1, by omega⟩
    have hm : m < 6 := hc.1
    have hv : vp_in (nI m) 6 := vp_in_nI hm (by omega)
    have hcl : (nI m).toNatClampNeg = m := nI_clamp (by omega)
    show wX_rowCount_20 post f hd nx cl vl (k + 1) (nI i) (nI m)
    refine br_f (lr_ne1 m (by omega)) (nm_r (nI_1 i) ⟨hv, nm_r ((congrArg nx hcl).trans hc.2.1) (ih k (i + 1) (by simp only [List.length_cons] at hn; omega) hc.2.2 ?_)⟩)
    rw [List.length_cons, show i + (t.length + 1) = i + 1 + t.length from by omega] at hp
    exact hp
theorem i_vc_rowCount {k : Nat} {u : SX} {v : SY} (I : i_Rel k u v) (hk : k + 4 ≤ 2048) (v1 : Int32) : wpX_rowCount (fun r => wpY_rowCount (fun r' => r' = r ∧ i_Rel (k + 4) u v) v v1) u v1 := by
  have J := i_up I
  generalize i_Rel (k + 4) u v = Q at J
  obtain ⟨f, hd, nx, cl, vl⟩ := u
  obtain ⟨us, ce, cn⟩ := v
  by_cases a : v1 < 0
  · exact br_t a (br_t a ⟨rfl, J⟩)
  by_cases b : v1 ≤ 3
  · obtain ⟨r, hr, rfl⟩ := lr_of3 a (Int32.not_lt.mpr b)
    obtain ⟨L, F, h⟩ := I
    have h : lr_S L F f hd nx cl vl us ce cn := h
    obtain ⟨h1, h2, h3, h4⟩ := h.1 r hr
    have hv : vp_in (nI r) 4 := vp_in_nI hr (by omega)
    have hcr : (nI r).toNatClampNeg = r := nI_clamp (by omega)
    refine br_f a (br_t b ⟨hv, nm_r ((congrArg hd hcr).trans h1) ⟨(L r).length + 1, lr_cnt (L r) _ 0 (Nat.lt_succ_self _) h2 ?_⟩⟩)
    refine br_f a (br_t b ⟨hv, ?_, J⟩)
    rw [hcr, Nat.zero_add]
    exact h4
  · exact br_f a (br_f b (br_f a (br_f b ⟨rfl, J⟩)))

/-! colAt: the cells from column c on against the rest of the chain -/
theorem lr_col {f us p1 : Int32} {hd nx cl vl ce cn : Nat → Int32} {r : Nat} (hr : r < 4) :
    ∀ (d c : Nat) (l : List Nat) (i : Int32), c + d = 8 → lr_ch nx l →
      (∀ m, m ∈ l → ∃ q, c ≤ q ∧ q < 8 ∧ cl m = nI q ∧ ¬ ce (r * 8 + q) = 0) →
      (∀ q, c ≤ q → q < 8 → ¬ ce (r * 8 + q) = 0 → ∃ m, m ∈ l ∧ cl m = nI q) →
      l.Pairwise (fun a b => cl a < cl b) →
      ∃ a : Int32, (∀ post : Int32 → Prop, post a → wX_colAt_25 post p1 f hd nx cl vl (l.length + 1) i (lr_hv l)) ∧
        (∀ post : Int32 → Prop, post a → wY_colAt_20 post (nI r) p1 us ce cn (d + 1) i (nI c)) := by
  intro d
  induction d with
  | zero =>
    intro c l i hc hl h1 h2 h3
    obtain rfl : c = 8 := by omega
    cases l with
    | nil => exact ⟨-1, fun post hp => br_t rfl hp, fun post hp => br_t (by decide +kernel : (8 : Int32) ≤ nI 8) hp⟩
    | cons m t =>
      obtain ⟨q, hq, hq', _⟩ := h1 m (List.mem_cons_self ..)
      omega
  | succ d ih =>
    intro c l i hc hl h1 h2 h3
    have hv2 : vp_in (nI r * 8 + nI c) 32 := by rw [lr_ix]; exact vp_in_nI (by omega) (by omega)
    have hx : (nI r * 8 + nI c).toNatClampNeg = r * 8 + c := by rw [lr_ix]; exact nI_clamp (by omega)
    have h8 : ¬ (8 : Int32) ≤ nI c := lr_le8 c (by omega)
    by_cases z : ce (r * 8 + c) = 0
    · obtain ⟨a, hX, hY⟩ := ih c.succ l i (by omega) hl (fun m hm => by
        obtain ⟨q, a1, a2, a3, a4⟩ := h1 m hm
        have : q ≠ c := fun e => a4 (by rw [e]; exact z)
        exact ⟨q, by omega, a2, a3, a4⟩) (fun q a1 a2 a3 => h2 q (by omega) a2 a3) h3
      refine ⟨a, hX, fun post hp => br_f h8 ⟨hv2, br_t (by rw [hx]; exact z) (nm_r (nI_1 c) (hY post hp))⟩⟩
    · have z' : ¬ ce (nI r * 8 + nI c).toNatClampNeg = 0 := by rw [hx]; exact z
      obtain ⟨m0, hm0, e0⟩ := h2 c (by omega) (by omega) z
      cases l with
      | nil => exact nomatch hm0
      | cons m t =>
        have hm : m < 6 := hl.1
        have hv : vp_in (nI m) 6 := vp_in_nI hm (by omega)
        have hcl : (nI m).toNatClampNeg = m := nI_clamp (by omega)
        have h3' := List.pairwise_cons.mp h3
        obtain ⟨q, a1, a2, a3, a4⟩ := h1 m (List.mem_cons_self ..)
        have ec : cl m = nI c := by
          rcases List.mem_cons.mp hm0 with e | e
          · rw [← e]; exact e0
          · have hlt : cl m < cl m0 := h3'.1 m0 e
            rw [a3, e0, nI_ltI (by omega) (by omega)] at hlt
            omega
        by_cases e : i = p1
        · refine ⟨nI c, fun post hp => ?_, fun post hp => br_f h8 ⟨hv2, br_f z' (br_t e hp)⟩⟩
          show wX_colAt_25 post p1 f hd nx cl vl (t.length + 1 + 1) i (nI m)
          refine br_f (lr_ne1 m (by omega)) (br_t e ⟨hv, ?_⟩)
          rw [hcl, ec]; exact hp
        · obtain ⟨a, hX, hY⟩ := ih c.succ t (i + 1) (by omega) hl.2.2 (fun m' hm' => by
            obtain ⟨q', b1, b2, b3, b4⟩ := h1 m' (List.mem_cons_of_mem _ hm')
            have hlt : cl m < cl m' := h3'.1 m' hm'
            rw [ec, b3, nI_ltI (by omega) (by omega)] at hlt
            exact ⟨q', by omega, b2, b3, b4⟩) (fun q' b1 b2 b3 => by
            obtain ⟨m', hm', e'⟩ := h2 q' (by omega) b2 b3
            rcases List.mem_cons.mp hm' with w | w
            · rw [w, ec, nI_eq (by omega) (by omega)] at e'
              omega
            · exact ⟨m', w, e'⟩) h3'.2
          refine ⟨a, fun post hp => ?_, fun post hp => br_f h8 ⟨hv2, br_f z' (br_f e (nm_e (nm_r (nI_1 c) (hY post hp))))⟩⟩
          show wX_colAt_25 post p1 f hd nx cl vl (t.length + 1 + 1) i (nI m)
          exact br_f (lr_ne1 m (by omega)) (br_f e (nm_e ⟨hv, nm_r ((congrArg nx hcl).trans hl.2.1) (hX post hp)⟩))
theorem i_vc_colAt {k : Nat} {u : SX} {v : SY} (I : i_Rel k u v) (hk : k + 4 ≤ 2048) (v1 : Int32) (v2 : Int32) : wpX_colAt (fun r => wpY_colAt (fun r' => r' = r ∧ i_Rel (k + 4) u v) v v1 v2) u v1 v2 := by
  have J := i_up I
  generalize i_Rel (k + 4) u v = Q at J
  obtain ⟨f, hd, nx, cl, vl⟩ := u
  obtain ⟨us, ce, cn⟩ := v
  by_cases a : v1 < 0
  · exact br_t a (br_t a ⟨rfl, J⟩)
  by_cases b : 3 < v1
  · exact br_f a (br_t b (br_f a (br_t b ⟨rfl, J⟩)))
  by_cases c : 0 ≤ v2
  · obtain ⟨r, hr, rfl⟩ := lr_of3 a b
    obtain ⟨L, F, h⟩ := I
    have h : lr_S L F f hd nx cl vl us ce cn := h
    obtain ⟨h1, h2, h3, h4⟩ := h.1 r hr
    have hv : vp_in (nI r) 4 := vp_in_nI hr (by omega)
    have hcr : (nI r).toNatClampNeg = r := nI_clamp (by omega)
    obtain ⟨w, hX, hY⟩ := lr_col (f := f) (us := us) (p1 := v2) (hd := hd) (nx := nx) (cl := cl) (vl := vl) (ce := ce) (cn := cn) hr 8 0 (L r) 0 rfl h2
      (fun m hm => by
        obtain ⟨q, b1, b2, b3, b4⟩ := h3.1 m hm
        exact ⟨q, Nat.zero_le _, b1, b2, by rw [b3]; exact b4⟩)
      (fun q _ b2 b3 => h3.2.1 q b2 b3) h3.2.2
    refine br_f a (br_f b (br_t c ⟨hv, nm_r ((congrArg hd hcr).trans h1) ⟨_, hX _ ?_⟩⟩))
    exact br_f a (br_f b (br_t c ⟨_, hY _ ⟨rfl, J⟩⟩))
  · exact br_f a (br_f b (br_f c (br_f a (br_f b (br_f c ⟨rfl, J⟩)))))
end
section
/-! the three changes of a state, with no walk in sight -/
theorem lr_ltne {cl : Nat → Int32} {a b : Nat} (h : cl a < cl b) : a ≠ b := by
  intro e
  rw [e] at h
  exact Int32.lt_irrefl h
theorem lr_sum {L : Nat → List Nat} {F : List Nat} {fr us : Int32} {hd nx cl vl ce cn : Nat → Int32} {r : Nat}
    (h : lr_S L F fr hd nx cl vl us ce cn) (hr : r < 4) : (L r).length + F.length ≤ 6 := by
  have := h.2.2.2.2.2.2.1
  rcases (by omega : r = 0 ∨ r = 1 ∨ r = 2 ∨ r = 3) with rfl | rfl | rfl | rfl <;> omega
theorem lr_ce {ce : Nat → Int32} {r s c d : Nat} {v : Int32} (h : s ≠ r) (hc : c < 8) (hd : d < 8) :
    upd ce (r * 8 + c) v (s * 8 + d) = ce (s * 8 + d) := pk_un (by omega)
theorem lr_some {r c n : Nat} {l : List Nat} {cl vl ce : Nat → Int32} (h : lr_C r l cl vl ce) (hc : c < 8) (hm : n ∈ l) (hn : cl n = nI c) :
    ¬ ce (r * 8 + c) = 0 := by
  obtain ⟨q, hq, e1, e2, e3⟩ := h.1 n hm
  have : q = c := (nI_eq (by omega) (by omega)).mp (e1.symm.trans hn)
  rw [this] at e2
  rw [e2]; exact e3
theorem lr_none {r c : Nat} {l : List Nat} {cl vl ce : Nat → Int32} (h : lr_C r l cl vl ce) (hc : c < 8) (hm : ∀ m, m ∈ l → ¬ cl m = nI c) :
    ce (r * 8 + c) = 0 := by
  refine Classical.byContradiction fun z => ?_
  obtain ⟨m, h1, h2⟩ := h.2.1 c hc z
  exact hm m h1 h2
section
variable {L : Nat → List Nat} {F : List Nat} {fr us v : Int32} {hd nx cl vl ce cn hd' nx' : Nat → Int32} {r c n : Nat} {P S : List Nat}
theorem lr_del (h : lr_S L F fr hd nx cl vl us ce cn) (hr : r < 4) (hc : c < 8) (hL : L r = P ++ n :: S) (hn : cl n = nI c)
    (hP : ∀ m, m ∈ P → cl m < nI c) (hS : ∀ m, m ∈ S → nI c < cl m)
    (e1 : hd' r = lr_hv (P ++ S)) (e1' : ∀ s, s ≠ r → hd' s = hd s) (e2 : lr_ch nx' (P ++ S)) (e3 : nx' n = lr_hv F)
    (e4 : ∀ m, ¬ m ∈ P ++ n :: S → nx' m = nx m) :
    ∃ L' F', lr_S L' F' (nI n) hd' nx' (upd cl n 0) (upd vl n 0) (us - 1) (upd ce (r * 8 + c) 0) (upd cn r ((cn r - 1).toInt16.toInt32)) := by
  have hR := h.1 r hr
  rw [hL] at hR
  have hsum := lr_sum h hr
  rw [hL] at hsum
  have hlen : (P ++ n :: S).length = (P ++ S).length + 1 := by
    simp only [List.length_append, List.length_cons]; omega
  have hnin : n ∈ P ++ n :: S := List.mem_append.mpr (Or.inr (List.mem_cons_self ..))
  have hnr : n ∈ L r := by rw [hL]; exact hnin
  have hsub : ∀ m, m ∈ P ++ S → m ∈ P ++ n :: S := by
    intro m hm
    rcases List.mem_append.mp hm with q | q
    · exact List.mem_append.mpr (Or.inl q)
    · exact List.mem_append.mpr (Or.inr (List.mem_cons_of_mem _ q))
  have hne : ∀ m, m ∈ P ++ S → m ≠ n := by
    intro m hm
    rcases List.mem_append.mp hm with q | q
    · exact lr_ltne (cl := cl) (by rw [hn]; exact hP m q)
    · exact (lr_ltne (cl := cl) (by rw [hn]; exact hS m q)).symm
  have hnF : ¬ n ∈ F := h.2.2.2.2.2.1 r n hr hnr
  have hFr : ∀ m, m ∈ F → ¬ m ∈ P ++ n :: S := by
    intro m hm z
    rw [← hL] at z
    exact h.2.2.2.2.2.1 r m hr z hm
  have hF6 : n < 6 := lr_ch_lt _ hR.2.1 n hnin
  refine ⟨lr_up L r (P ++ S), n :: F, lr_asm h hr ⟨e1, e2, ?_, ?_⟩ e1' (fun m h1 h2 => ?_) (fun s d hs hd => lr_ce hs hc hd) (fun s hs => pk_un hs) rfl
    ⟨hF6, e3, lr_ch_fr F (fun m hm => e4 m (hFr m hm)) h.2.2.1⟩ (List.nodup_cons.mpr ⟨hnF, h.2.2.2.1⟩)
    (fun m hm => Or.inl (by rw [hL]; exact hsub m hm)) (fun m hm => ?_) (fun m hm z => ?_) ?_ ?_⟩
  · exact lr_C_del hR.2.2.1 hc hn hP hS (fun m hm => pk_un (hne m hm)) (fun m hm => pk_un (hne m hm))
  · rw [pk_us, hR.2.2.2, hlen, nI_pred]
    exact lr_i16 _ (by omega)
  · have hmn : m ≠ n := fun e => h1 (by rw [e]; exact hnr)
    exact ⟨e4 m (by rw [← hL]; exact h1), pk_un hmn, pk_un hmn⟩
  · rcases List.mem_cons.mp hm with q | q
    · rw [q]; exact Or.inl hnr
    · exact Or.inr q
  · rcases List.mem_cons.mp z with q | q
    · exact hne m hm q
    · exact hFr m q (hsub m hm)
  · rw [hL, List.length_cons, hlen]; omega
  · rw [h.2.2.2.2.2.2.2, List.length_cons, show 6 - F.length = (6 - (F.length + 1)) + 1 from by omega, nI_pred]
theorem lr_ins (h : lr_S L (n :: F) fr hd nx cl vl us ce cn) (hr : r < 4) (hc : c < 8) (hL : L r = P ++ S) (hv : ¬ v = 0)
    (hP : ∀ m, m ∈ P → cl m < nI c) (hS : ∀ m, m ∈ S → nI c < cl m)
    (e1 : hd' r = lr_hv (P ++ n :: S)) (e1' : ∀ s, s ≠ r → hd' s = hd s) (e2 : lr_ch nx' (P ++ n :: S))
    (e4 : ∀ m, ¬ m ∈ P ++ S → m ≠ n → nx' m = nx m) :
    ∃ L' F', lr_S L' F' (lr_hv F) hd' nx' (upd cl n (nI c)) (upd vl n v) (us + 1) (upd ce (r * 8 + c) v) (upd cn r ((cn r + 1).toInt16.toInt32)) := by
  have hR := h.1 r hr
  rw [hL] at hR
  have hsum := lr_sum h hr
  rw [hL, List.length_cons] at hsum
  have hlen : (P ++ n :: S).length = (P ++ S).length + 1 := by
    simp only [List.length_append, List.length_cons]; omega
  have hnF := List.nodup_cons.mp h.2.2.2.1
  have hnr : ¬ n ∈ L r := fun z => h.2.2.2.2.2.1 r n hr z (List.mem_cons_self ..)
  have hnm : ∀ m, m ∈ P ++ S → m ≠ n := fun m hm e => hnr (by rw [hL, ← e]; exact hm)
  have hFr : ∀ m, m ∈ F → ¬ m ∈ P ++ S := by
    intro m hm z
    rw [← hL] at z
    exact h.2.2.2.2.2.1 r m hr z (List.mem_cons_of_mem _ hm)
  have hFn : ∀ m, m ∈ F → m ≠ n := fun m hm e => hnF.1 (by rw [← e]; exact hm)
  have hor : ∀ m, m ∈ P ++ n :: S → m = n ∨ m ∈ P ++ S := by
    intro m hm
    rcases List.mem_append.mp hm with q | q
    · exact Or.inr (List.mem_append.mpr (Or.inl q))
    · rcases List.mem_cons.mp q with q | q
      · exact Or.inl q
      · exact Or.inr (List.mem_append.mpr (Or.inr q))
  refine ⟨lr_up L r (P ++ n :: S), F, lr_asm h hr ⟨e1, e2, ?_, ?_⟩ e1' (fun m h1 h2 => ?_) (fun s d hs hd => lr_ce hs hc hd) (fun s hs => pk_un hs) rfl
    (lr_ch_fr F (fun m hm => e4 m (hFr m hm) (hFn m hm)) h.2.2.1.2.2) hnF.2
    (fun m hm => ?_) (fun m hm => Or.inr (List.mem_cons_of_mem _ hm)) (fun m hm z => ?_) ?_ ?_⟩
  · exact lr_C_ins hR.2.2.1 hc hv hP hS pk_us pk_us (fun m hm => pk_un (hnm m hm)) (fun m hm => pk_un (hnm m hm))
  · rw [pk_us, hR.2.2.2, hlen, nI_1]
    exact lr_i16 _ (by omega)
  · have hmn : m ≠ n := fun e => h2 (by rw [e]; exact List.mem_cons_self ..)
    exact ⟨e4 m (by rw [← hL]; exact h1) hmn, pk_un hmn, pk_un hmn⟩
  · rcases hor m hm with q | q
    · rw [q]; exact Or.inr (List.mem_cons_self ..)
    · rw [hL]; exact Or.inl q
  · rcases hor m hm with q | q
    · exact hFn m z q
    · exact hFr m z q
  · rw [hL, List.length_cons, hlen]; omega
  · rw [h.2.2.2.2.2.2.2, List.length_cons, nI_1]
    exact congrArg nI (by omega)
theorem lr_ovw (h : lr_S L F fr hd nx cl vl us ce cn) (hr : r < 4) (hc : c < 8) (hL : L r = P ++ n :: S) (hn : cl n = nI c) (hv : ¬ v = 0)
    (hP : ∀ m, m ∈ P → cl m < nI c) (hS : ∀ m, m ∈ S → nI c < cl m) :
    ∃ L' F', lr_S L' F' fr hd nx cl (upd vl n v) us (upd ce (r * 8 + c) v) cn := by
  have hR := h.1 r hr
  rw [hL] at hR
  have hne : ∀ m, m ∈ P ++ S → m ≠ n := by
    intro m hm
    rcases List.mem_append.mp hm with q | q
    · exact lr_ltne (cl := cl) (by rw [hn]; exact hP m q)
    · exact (lr_ltne (cl := cl) (by rw [hn]; exact hS m q)).symm
  have hnr : n ∈ L r := by rw [hL]; exact List.mem_append.mpr (Or.inr (List.mem_cons_self ..))
  refine ⟨lr_up L r (P ++ n :: S), F, lr_asm h hr ⟨hR.1, hR.2.1, ?_, hR.2.2.2⟩ (fun _ _ => rfl) (fun m h1 h2 => ⟨rfl, rfl, pk_un (fun e => h1 (by rw [e]; exact hnr))⟩) (fun s d hs hd => lr_ce hs hc hd) (fun _ _ => rfl) h.2.1
    h.2.2.1 h.2.2.2.1 (fun m hm => Or.inl (by rw [hL]; exact hm)) (fun m hm => Or.inr hm) (fun m hm => h.2.2.2.2.2.1 r m hr (by rw [hL]; exact hm)) (by rw [hL]) h.2.2.2.2.2.2.2⟩
  have h1 := lr_C_del (cl' := cl) (vl' := vl) hR.2.2.1 hc hn hP hS (fun _ _ => rfl) (fun _ _ => rfl)
  have h2 := lr_C_ins (n := n) (v := v) (cl' := cl) (vl' := upd vl n v) h1 hc hv hP hS hn pk_us (fun _ _ => rfl) (fun m hm => pk_un (hne m hm))
  rw [lr_uu] at h2
  exact h2
end
end
section
/-! set: the search, then X's four endings and Y's five -/
section
variable {post : Int32 → SX → Prop} {p0 p1 p2 x4 f : Int32} {hd nx cl vl : Nat → Int32}
theorem lr_s32 {l : List Nat} (hs : l.Pairwise (fun a b => cl a < cl b))
    (K : ∀ P S, l = P ++ S → lr_ch nx S → (∀ m, m ∈ P → cl m < p1) → (∀ m, m ∈ S → p1 ≤ cl m) → wX_set_65 post p0 p1 p2 (lr_lv P) (lr_hv S) f hd nx cl vl) :
    ∀ (S P : List Nat) (n : Nat), S.length < n → l = P ++ S → lr_ch nx S → (∀ m, m ∈ P → cl m < p1) →
      wX_set_32 post p0 p1 p2 f hd nx cl vl n (lr_lv P) (lr_hv S) := by
  intro S
  induction S with
  | nil =>
    intro P n hn hl hc hP
    obtain ⟨k, rfl⟩ : ∃ k, n = k + 1 := ⟨n - 1, by simp only [List.length_nil] at hn; omega⟩
    exact br_t rfl (K P [] hl hc hP (fun m hm => nomatch hm))
  | cons m t ih =>
    intro P n hn hl hc hP
    obtain ⟨k, rfl⟩ : ∃ k, n = k + 1 := ⟨n - 1, by omega⟩
    have hm : m < 6 := hc.1
    have hv : vp_in (nI m) 6 := vp_in_nI hm (by omega)
    have hcl : (nI m).toNatClampNeg = m := nI_clamp (by omega)
    show wX_set_32 post p0 p1 p2 f hd nx cl vl (k + 1) (lr_lv P) (nI m)
    refine br_f (lr_ne1 m (by omega)) ⟨hv, ?_⟩
    rw [hcl]
    by_cases e : p1 ≤ cl m
    · refine br_t e (K P (m :: t) hl hc hP (fun q hq => ?_))
      rw [hl, List.pairwise_append, List.pairwise_cons] at hs
      rcases List.mem_cons.mp hq with z | z
      · rw [z]; exact e
      · exact Int32.le_of_lt (Int32.lt_of_le_of_lt e (hs.2.1.1 q z))
    · refine br_f e ⟨hv, nm_r hc.2.1 ?_⟩
      have := ih (P ++ [m]) k (by simp only [List.length_cons] at hn; omega) (by rw [hl, List.append_assoc]; rfl) hc.2.2 (fun q hq => by
        rcases List.mem_append.mp hq with z | z
        · exact hP q z
        · rw [List.mem_singleton.mp z]; exact Int32.not_le.mp e)
      rw [lr_lv_app] at this
      exact this
theorem lr_s65 {S : List Nat} (hc : lr_ch nx S) (hS : ∀ m, m ∈ S → p1 ≤ cl m) (hs : S.Pairwise (fun a b => cl a < cl b))
    (K0 : (∀ m, m ∈ S → p1 < cl m) → wX_set_87 post p0 p1 p2 x4 (lr_hv S) 0 f hd nx cl vl)
    (K1 : ∀ m t, S = m :: t → cl m = p1 → (∀ q, q ∈ t → p1 < cl q) → wX_set_87 post p0 p1 p2 x4 (nI m) 1 f hd nx cl vl) :
    wX_set_65 post p0 p1 p2 x4 (lr_hv S) f hd nx cl vl := by
  cases S with
  | nil => exact br_t rfl (K0 (fun m hm => nomatch hm))
  | cons m t =>
    have hm : m < 6 := hc.1
    have hv : vp_in (nI m) 6 := vp_in_nI hm (by omega)
    have hcl : (nI m).toNatClampNeg = m := nI_clamp (by omega)
    have hs' := List.pairwise_cons.mp hs
    show wX_set_65 post p0 p1 p2 x4 (nI m) f hd nx cl vl
    unfold wX_set_65
    refine br_f (lr_ne1 m (by omega)) ⟨hv, ?_⟩
    rw [hcl]
    by_cases e : cl m = p1
    · exact br_t e (K1 m t rfl e (fun q hq => by have := hs'.1 q hq; rw [e] at this; exact this))
    · refine br_f e (K0 (fun q hq => ?_))
      have hm' : p1 < cl m := Int32.lt_of_le_of_ne (hS m (List.mem_cons_self ..)) (fun z => e z.symm)
      rcases List.mem_cons.mp hq with z | z
      · rw [z]; exact hm'
      · exact Int32.lt_trans hm' (hs'.1 q z)
theorem lr_s136 {n : Nat} {F : List Nat} {nx0 : Nat → Int32} (hn : n < 6) (hF : lr_ch nx0 F)
    (hp : post 3 (nI n, hd, upd nx n (lr_hv F), upd cl n 0, upd vl n 0)) : wX_set_136 post (nI n) (lr_hv F) hd nx cl vl := by
  have hv : vp_in (nI n) 6 := vp_in_nI hn (by omega)
  have hcl : (nI n).toNatClampNeg = n := nI_clamp (by omega)
  unfold wX_set_136
  refine ⟨hv, fun a ea => ⟨hv, fun b eb => ⟨hv, fun d ed => ⟨pk_nb _, pk_fb _, ?_⟩⟩⟩⟩
  rw [hcl, lr_hvn hF] at ea
  rw [hcl, vp_nar_byte, lr_z8] at eb
  rw [hcl] at ed
  rw [ea, eb, ed, lr_i8 n (by omega)]
  exact hp
end
section
variable {post : Int32 → SX → Prop} {L : Nat → List Nat} {F : List Nat} {fr us v : Int32} {hd nx cl vl ce cn : Nat → Int32} {r c n : Nat} {P S : List Nat}
theorem lr_x3 (h : lr_S L F fr hd nx cl vl us ce cn) (hr : r < 4) (hc : c < 8) (hL : L r = P ++ n :: S) (hn : cl n = nI c)
    (hP : ∀ m, m ∈ P → cl m < nI c) (hS : ∀ m, m ∈ S → nI c < cl m)
    (K : ∀ f' hd' nx' cl' vl', (∃ L' F', lr_S L' F' f' hd' nx' cl' vl' (us - 1) (upd ce (r * 8 + c) 0) (upd cn r ((cn r - 1).toInt16.toInt32))) → post 3 (f', hd', nx', cl', vl')) :
    wX_set_87 post (nI r) (nI c) 0 (lr_lv P) (nI n) 1 fr hd nx cl vl := by
  have hfr := h.2.1
  subst hfr
  have hR := h.1 r hr
  rw [hL] at hR
  obtain ⟨b1, b2, b3, b4⟩ := hR
  have hct : lr_ch nx (n :: S) := lr_ch_r _ P b2
  have hn6 : n < 6 := hct.1
  have hF := h.2.2.1
  have hv : vp_in (nI n) 6 := vp_in_nI hn6 (by omega)
  have hcl : (nI n).toNatClampNeg = n := nI_clamp (by omega)
  have hvr : vp_in (nI r) 4 := vp_in_nI hr (by omega)
  have hcr : (nI r).toNatClampNeg = r := nI_clamp (by omega)
  have hSn : ∀ m, m ∈ S → m ≠ n := fun m hm => (lr_ltne (cl := cl) (by rw [hn]; exact hS m hm)).symm
  have hPn : ∀ m, m ∈ P → m ≠ n := fun m hm => lr_ltne (cl := cl) (by rw [hn]; exact hP m hm)
  unfold wX_set_87
  refine br_t rfl (br_f (by decide) ?_)
  rcases lr_split P with rfl | ⟨Q, p, rfl⟩
  · refine br_t rfl ⟨hv, hvr, fun a ea => ?_⟩
    rw [hcl, hcr, hct.2.1, lr_hvn hct.2.2] at ea
    subst ea
    refine lr_s136 hn6 hF (K _ _ _ _ _ (lr_del h hr hc hL hn hP hS pk_us (fun s hs => pk_un hs) ?_ pk_us (fun m hm => pk_un ?_)))
    · exact lr_ch_fr S (fun m hm => pk_un (hSn m hm)) hct.2.2
    · intro e
      exact hm (by rw [e]; exact List.mem_cons_self ..)
  · rw [List.append_assoc] at b1 b2
    have hpP : p ∈ Q ++ [p] := List.mem_append.mpr (Or.inr (List.mem_singleton.mpr rfl))
    have hp6 : p < 6 := (lr_ch_r _ Q b2).1
    have hvp : vp_in (nI p) 6 := vp_in_nI hp6 (by omega)
    have hcp : (nI p).toNatClampNeg = p := nI_clamp (by omega)
    have hSp : ∀ m, m ∈ S → m ≠ p := fun m hm => (lr_ltne (cl := cl) (Int32.lt_trans (hP p hpP) (hS m hm))).symm
    have hd3 := b3.2.2
    rw [List.append_assoc, List.pairwise_append] at hd3
    have hQp : ∀ m, m ∈ Q → m ≠ p := fun m hm => lr_ltne (cl := cl) (hd3.2.2 m hm p (List.mem_cons_self ..))
    have hQn : ∀ m, m ∈ Q → m ≠ n := fun m hm => hPn m (List.mem_append.mpr (Or.inl hm))
    have hpn : p ≠ n := hPn p hpP
    rw [lr_lv_app]
    refine br_f (lr_ne1 p (by omega)) ⟨hv, hvp, fun a ea => ?_⟩
    rw [hcl, hcp, hct.2.1, lr_hvn hct.2.2] at ea
    subst ea
    refine lr_s136 hn6 hF (K _ _ _ _ _ (lr_del h hr hc hL hn hP hS ?_ (fun s _ => rfl) ?_ pk_us (fun m hm => ?_)))
    · rw [List.append_assoc]
      exact b1.trans (lr_hv_app p (n :: S) S Q)
    · rw [List.append_assoc]
      refine lr_ch_glue p (n :: S) S ?_ ?_ Q b2 ?_
      · rw [pk_un hpn, pk_us]
      · exact lr_ch_fr S (fun m hm => by rw [pk_un (hSn m hm), pk_un (hSp m hm)]) hct.2.2
      · intro m hm
        rw [pk_un (hQn m hm), pk_un (hQp m hm)]
    · have h1 : m ≠ n := fun e => hm (by rw [e]; exact List.mem_append.mpr (Or.inr (List.mem_cons_self ..)))
      have h2 : m ≠ p := fun e => hm (by rw [e]; exact List.mem_append.mpr (Or.inl hpP))
      rw [pk_un h1, pk_un h2]
theorem lr_x1 (h : lr_S L (n :: F) fr hd nx cl vl us ce cn) (hr : r < 4) (hc : c < 8) (hL : L r = P ++ S) (hv : ¬ v = 0)
    (hP : ∀ m, m ∈ P → cl m < nI c) (hS : ∀ m, m ∈ S → nI c < cl m)
    (K : ∀ f' hd' nx' cl' vl', (∃ L' F', lr_S L' F' f' hd' nx' cl' vl' (us + 1) (upd ce (r * 8 + c) v) (upd cn r ((cn r + 1).toInt16.toInt32))) → post 1 (f', hd', nx', cl', vl')) :
    wX_set_87 post (nI r) (nI c) v (lr_lv P) (lr_hv S) 0 fr hd nx cl vl := by
  have hfr : fr = nI n := h.2.1
  subst hfr
  have hR := h.1 r hr
  rw [hL] at hR
  obtain ⟨b1, b2, b3, b4⟩ := hR
  have hcS : lr_ch nx S := lr_ch_r _ P b2
  have hF := h.2.2.1
  have hn6 : n < 6 := hF.1
  have hvn : vp_in (nI n) 6 := vp_in_nI hn6 (by omega)
  have hcl : (nI n).toNatClampNeg = n := nI_clamp (by omega)
  have hvr : vp_in (nI r) 4 := vp_in_nI hr (by omega)
  have hcr : (nI r).toNatClampNeg = r := nI_clamp (by omega)
  have hnr : ¬ n ∈ L r := fun z => h.2.2.2.2.2.1 r n hr z (List.mem_cons_self ..)
  have hnm : ∀ m, m ∈ P ++ S → m ≠ n := fun m hm e => hnr (by rw [hL, ← e]; exact hm)
  have hSn : ∀ m, m ∈ S → m ≠ n := fun m hm => hnm m (List.mem_append.mpr (Or.inr hm))
  have hb := lr_hvb hF.2.2
  have hnar : narrow .byte (.int (lr_hv F)) = .int (lr_hv F) := by
    have := pk_nb (lr_hv F); rw [hb] at this; exact this
  have hfit : fits .byte (.int (lr_hv F)) = true := by
    have := pk_fb (lr_hv F); rw [hb] at this; exact this
  unfold wX_set_87
  refine br_f hv (br_t rfl (br_f (lr_ne1 n (by omega)) ⟨hvn, nm_r ((congrArg nx hcl).trans hF.2.1) ⟨hnar, hfit, hvn, fun a ea => ⟨hvn, fun b eb => ⟨hvn, fun d ed => ?_⟩⟩⟩⟩))
  rw [hcl, pk_vb, lr_i8 c hc] at ea
  rw [hcl] at eb
  rw [hcl, pk_vb, lr_hvb hcS] at ed
  subst ea eb ed
  rcases lr_split P with rfl | ⟨Q, p, rfl⟩
  · refine br_t rfl ⟨hvr, fun a ea => ?_⟩
    rw [hcr, pk_vb, lr_i8 n (by omega)] at ea
    subst ea
    refine K _ _ _ _ _ (lr_ins h hr hc hL hv hP hS pk_us (fun s hs => pk_un hs) ?_ (fun m _ hm => pk_un hm))
    exact ⟨hn6, pk_us, lr_ch_fr S (fun m hm => pk_un (hSn m hm)) hcS⟩
  · rw [List.append_assoc] at b1 b2
    have hpP : p ∈ Q ++ [p] := List.mem_append.mpr (Or.inr (List.mem_singleton.mpr rfl))
    have hp6 : p < 6 := (lr_ch_r _ Q b2).1
    have hvp : vp_in (nI p) 6 := vp_in_nI hp6 (by omega)
    have hcp : (nI p).toNatClampNeg = p := nI_clamp (by omega)
    have hSp : ∀ m, m ∈ S → m ≠ p := fun m hm => (lr_ltne (cl := cl) (Int32.lt_trans (hP p hpP) (hS m hm))).symm
    have hd3 := b3.2.2
    rw [List.append_assoc, List.pairwise_append] at hd3
    have hQp : ∀ m, m ∈ Q → m ≠ p := fun m hm => lr_ltne (cl := cl) (hd3.2.2 m hm p (List.mem_cons_self ..))
    have hQn : ∀ m, m ∈ Q → m ≠ n := fun m hm => hnm m (List.mem_append.mpr (Or.inl (List.mem_append.mpr (Or.inl hm))))
    have hpn : p ≠ n := hnm p (List.mem_append.mpr (Or.inl hpP))
    rw [lr_lv_app]
    refine br_f (lr_ne1 p (by omega)) ⟨hvp, fun a ea => ?_⟩
    rw [hcp, pk_vb, lr_i8 n (by omega)] at ea
    subst ea
    refine K _ _ _ _ _ (lr_ins h hr hc hL hv hP hS ?_ (fun s _ => rfl) ?_ (fun m h1 h2 => ?_))
    · rw [List.append_assoc]
      exact b1.trans (lr_hv_app p S (n :: S) Q)
    · rw [List.append_assoc]
      refine lr_ch_glue p S (n :: S) pk_us ⟨hn6, ?_, ?_⟩ Q b2 ?_
      · rw [pk_un hpn.symm, pk_us]
      · exact lr_ch_fr S (fun m hm => by rw [pk_un (hSp m hm), pk_un (hSn m hm)]) hcS
      · intro m hm
        rw [pk_un (hQp m hm), pk_un (hQn m hm)]
    · have h3 : m ≠ p := fun e => h1 (by rw [e]; exact List.mem_append.mpr (Or.inl hpP))
      rw [pk_un h3, pk_un h2]
theorem lr_x2 (h : lr_S L F fr hd nx cl vl us ce cn) (hr : r < 4) (hc : c < 8) (hL : L r = P ++ n :: S) (hn : cl n = nI c) (hv : ¬ v = 0)
    (hP : ∀ m, m ∈ P → cl m < nI c) (hS : ∀ m, m ∈ S → nI c < cl m) {x4 : Int32}
    (K : ∀ f' hd' nx' cl' vl', (∃ L' F', lr_S L' F' f' hd' nx' cl' vl' us (upd ce (r * 8 + c) v) cn) → post 2 (f', hd', nx', cl', vl')) :
    wX_set_87 post (nI r) (nI c) v x4 (nI n) 1 fr hd nx cl vl := by
  have hR := h.1 r hr
  rw [hL] at hR
  have hct : lr_ch nx (n :: S) := lr_ch_r _ P hR.2.1
  have hn6 : n < 6 := hct.1
  have hvn : vp_in (nI n) 6 := vp_in_nI hn6 (by omega)
  have hcl : (nI n).toNatClampNeg = n := nI_clamp (by omega)
  unfold wX_set_87
  refine br_f hv (br_f (by decide) ⟨hvn, fun a ea => ?_⟩)
  rw [hcl] at ea
  subst ea
  exact K _ _ _ _ _ (lr_ovw h hr hc hL hn hv hP hS)
end
section
variable {post : Int32 → SY → Prop} {us v : Int32} {ce cn : Nat → Int32} {r c : Nat}
theorem lr_y (hr : r < 4) (hc : c < 8)
    (h0 : v = 0 → ce (r * 8 + c) = 0 → post 0 (us, ce, cn))
    (h3 : v = 0 → ¬ ce (r * 8 + c) = 0 → post 3 (us - 1, upd ce (r * 8 + c) 0, upd cn r ((cn r - 1).toInt16.toInt32)))
    (h2 : ¬ v = 0 → ¬ ce (r * 8 + c) = 0 → post 2 (us, upd ce (r * 8 + c) v, cn))
    (hm : ¬ v = 0 → ce (r * 8 + c) = 0 → us = 6 → post (-2) (us, ce, cn))
    (h1 : ¬ v = 0 → ce (r * 8 + c) = 0 → ¬ us = 6 → post 1 (us + 1, upd ce (r * 8 + c) v, upd cn r ((cn r + 1).toInt16.toInt32))) :
    wpY_set post (us, ce, cn) (nI r) (nI c) v := by
  have hi : vp_in (nI (r * 8 + c)) 32 := vp_in_nI (by omega) (by omega)
  have hx : (nI (r * 8 + c)).toNatClampNeg = r * 8 + c := nI_clamp (by omega)
  have hvr : vp_in (nI r) 4 := vp_in_nI hr (by omega)
  have hcr : (nI r).toNatClampNeg = r := nI_clamp (by omega)
  refine br_f (lr_neg r (by omega)) (br_f (lr_lt3 r hr) (br_f (lr_neg c hc) (br_t (lr_7 c hc) (nm_r (lr_ix r c) ?_))))
  rw [hx, hcr]
  refine br_c (fun hz => ⟨hi, br_c (fun hy => h0 hz hy) (fun hy => ⟨hi, fun a ea => ⟨hvr, hvr, fun b eb => fun d ed => ?_⟩⟩)⟩)
    (fun hz => ⟨hi, br_c (fun hy => br_c (fun hu => hm hz hy hu) (fun hu => ⟨hi, fun a ea => ⟨hvr, hvr, fun b eb => fun d ed => ?_⟩⟩)) (fun hy => ⟨hi, fun a ea => ?_⟩)⟩)
  · rw [pk_vs] at eb
    subst ea eb ed
    exact h3 hz hy
  · rw [pk_vs] at eb
    subst ea eb ed
    exact h1 hz hy hu
  · subst ea
    exact h2 hz hy
end
theorem i_vc_set {k : Nat} {u : SX} {v : SY} (I : i_Rel k u v) (hk : k + 4 ≤ 2048) (v1 : Int32) (v2 : Int32) (v3 : Int32) : wpX_set (fun r u' => wpY_set (fun r' v' => r' = r ∧ i_Rel (k + 4) u' v') v v1 v2 v3) u v1 v2 v3 := by
  have J := i_up I
  obtain ⟨f, hd, nx, cl, vl⟩ := u
  obtain ⟨us, ce, cn⟩ := v
  by_cases a : v1 < 0
  · exact br_t a (br_t a ⟨rfl, J⟩)
  by_cases b : 3 < v1
  · exact br_f a (br_t b (br_f a (br_t b ⟨rfl, J⟩)))
  by_cases c : v2 < 0
  · exact br_f a (br_f b (br_t c (br_f a (br_f b (br_t c ⟨rfl, J⟩)))))
  by_cases d : v2 ≤ 7
  · obtain ⟨r, hr, rfl⟩ := lr_of3 a b
    obtain ⟨c', hc, rfl⟩ := lr_of7 c d
    obtain ⟨L, F, h⟩ := I
    have h : lr_S L F f hd nx cl vl us ce cn := h
    obtain ⟨h1, h2, h3, h4⟩ := h.1 r hr
    have hv : vp_in (nI r) 4 := vp_in_nI hr (by omega)
    have hcr : (nI r).toNatClampNeg = r := nI_clamp (by omega)
    refine br_f a (br_f b (br_f c (br_t d ⟨hv, nm_r ((congrArg hd hcr).trans h1) ⟨(L r).length + 1, lr_s32 h3.2.2 (fun P S e hS hlt hle => ?_) (L r) [] _ (Nat.lt_succ_self _) rfl h2 (fun m hm => nomatch hm)⟩⟩)))
    have hsS := h3.2.2
    rw [e, List.pairwise_append] at hsS
    refine lr_s65 hS hle hsS.2.1 (fun hgt => ?_) (fun n t eS en hgt => ?_)
    · have hz : ce (r * 8 + c') = 0 := lr_none h3 hc (fun m hm em => by
        rw [e] at hm
        rcases List.mem_append.mp hm with q | q
        · have := hlt m q; rw [em] at this; exact Int32.lt_irrefl this
        · have := hgt m q; rw [em] at this; exact Int32.lt_irrefl this)
      by_cases e3 : v3 = 0
      · subst e3
        exact br_t rfl (br_t rfl (lr_y hr hc (fun _ _ => ⟨rfl, J⟩) (fun _ z => absurd hz z) (fun z => absurd rfl z) (fun z => absurd rfl z) (fun z => absurd rfl z)))
      · cases F with
        | nil =>
          have eu : us = 6 := h.2.2.2.2.2.2.2
          have ef : f = -1 := h.2.1
          exact br_f e3 (br_t rfl (br_t ef (lr_y hr hc (fun z => absurd z e3) (fun z => absurd z e3) (fun _ z => absurd hz z) (fun _ _ _ => ⟨rfl, J⟩) (fun _ _ z => absurd eu z))))
        | cons n F =>
          have hu : ¬ us = 6 := by
            rw [h.2.2.2.2.2.2.2, List.length_cons]
            intro z
            have := (nI_eq (a := 6 - (F.length + 1)) (b := 6) (by omega) (by omega)).mp z
            omega
          refine lr_x1 h hr hc e e3 hlt hgt (fun f' hd' nx' cl' vl' R => ?_)
          exact lr_y hr hc (fun z => absurd z e3) (fun z => absurd z e3) (fun _ z => absurd hz z) (fun _ _ z => absurd z hu) (fun _ _ _ => ⟨rfl, R⟩)
    · rw [eS] at e
      have hz : ¬ ce (r * 8 + c') = 0 := lr_some h3 hc (n := n) (by rw [e]; exact List.mem_append.mpr (Or.inr (List.mem_cons_self ..))) en
      by_cases e3 : v3 = 0
      · subst e3
        refine lr_x3 h hr hc e en hlt hgt (fun f' hd' nx' cl' vl' R => ?_)
        exact lr_y hr hc (fun _ z => absurd z hz) (fun _ _ => ⟨rfl, R⟩) (fun z => absurd rfl z) (fun z => absurd rfl z) (fun z => absurd rfl z)
      · refine lr_x2 h hr hc e en e3 hlt hgt (fun f' hd' nx' cl' vl' R => ?_)
        exact lr_y hr hc (fun z => absurd z e3) (fun z => absurd z e3) (fun _ _ => ⟨rfl, R⟩) (fun _ z => absurd z hz) (fun _ z => absurd z hz)
  · exact br_f a (br_f b (br_f c (br_f d (br_f a (br_f b (br_f c (br_f d ⟨rfl, J⟩)))))))
end
