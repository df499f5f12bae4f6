section
theorem pk_us {f : Nat → Int32} {k : Nat} {x : Int32} : upd f k x k = x := if_pos rfl
theorem pk_un {f : Nat → Int32} {k j : Nat} {x : Int32} (h : j ≠ k) : upd f k x j = f j := if_neg h
theorem pk_sub {a b : Nat} (h : b ≤ a) : nI a - nI b = nI (a - b) := by
  obtain ⟨c, rfl⟩ : ∃ c, a = c + b := ⟨a - b, by omega⟩
  rw [← nI_add, Int32.add_sub_cancel, Nat.add_sub_cancel]
theorem pk_m1 (n : Nat) : nI (n + 1) + (-1) = nI n := by
  rw [← nI_1, Int32.add_assoc, show (1 : Int32) + (-1) = 0 from rfl, Int32.add_zero]
theorem pk_mul (a b : Nat) : nI a * nI b = nI (a * b) := (Int32.ofNat_mul a b).symm
theorem pk_div {a d : Nat} (ha : a < 2 ^ 31) (h0 : 0 < d) (hd : d < 2 ^ 31) : nI a / nI d = nI (a / d) := by
  apply Int32.toInt_inj.mp
  rw [lg_idiv_nonneg (by rw [nI_toInt ha]; omega) (by rw [nI_toInt hd]; omega), nI_toInt ha, nI_toInt hd, nI_toInt (Nat.lt_of_le_of_lt (Nat.div_le_self a d) ha)]
  first | rfl | exact (Int.natCast_ediv _ _).symm
theorem pk_rem {a d : Nat} (ha : a < 2 ^ 31) (h0 : 0 < d) (hd : d < 2 ^ 31) : nI a - nI a / nI d * nI d = nI (a % d) := by
  rw [pk_div ha h0 hd, pk_mul, pk_sub (Nat.div_mul_le_self a d)]
  exact congrArg nI (by have := Nat.div_add_mod' a d; omega)
theorem pk_sub_toInt {a b : Nat} (ha : a < 2 ^ 30) (hb : b < 2 ^ 30) : (nI a - nI b).toInt = (a : Int) - b := by
  rw [Int32.toInt_sub, nI_toInt (by omega), nI_toInt (by omega)]
  exact Int.bmod_eq_of_le (by omega) (by omega)
theorem pk_sneg {a b : Nat} (hb : b < 2 ^ 30) (h : a < b) : nI a - nI b < 0 := by
  rw [Int32.lt_iff_toInt_lt, pk_sub_toInt (by omega) hb, show (0 : Int32).toInt = 0 from by decide]
  omega
theorem pk_ix (x : Int32) {n : Nat} (hn : n < 2 ^ 31) : x < 0 ∨ nI n ≤ x ∨ ∃ j : Nat, j < n ∧ x = nI j := by
  by_cases h : x < 0
  · exact Or.inl h
  · obtain ⟨j, hj, rfl⟩ := nI_of h
    by_cases h2 : j < n
    · exact Or.inr (Or.inr ⟨j, h2, rfl⟩)
    · exact Or.inr (Or.inl (nI_le (by omega) hj))
theorem pk_le {x y : Int32} {A B : Prop} (a b : Nat) (f : a ≤ b → A) (g : b < a → B) (hx : x = nI a := by rfl) (hy : y = nI b := by rfl) (ha : a < 2 ^ 31 := by omega) (hb : b < 2 ^ 31 := by omega) : (x ≤ y → A) ∧ (¬ x ≤ y → B) := by
  subst hx hy
  rw [nI_leI ha hb]
  exact ⟨f, fun z => g (by omega)⟩
theorem pk_lt {x y : Int32} {A B : Prop} (a b : Nat) (f : a < b → A) (g : b ≤ a → B) (hx : x = nI a := by rfl) (hy : y = nI b := by rfl) (ha : a < 2 ^ 31 := by omega) (hb : b < 2 ^ 31 := by omega) : (x < y → A) ∧ (¬ x < y → B) := by
  subst hx hy
  rw [nI_ltI ha hb]
  exact ⟨f, fun z => g (by omega)⟩
theorem pk_eq {x y : Int32} {A B : Prop} (a b : Nat) (f : a = b → A) (g : a ≠ b → B) (hx : x = nI a := by rfl) (hy : y = nI b := by rfl) (ha : a < 2 ^ 31 := by omega) (hb : b < 2 ^ 31 := by omega) : (x = y → A) ∧ (¬ x = y → B) := by
  subst hx hy
  rw [nI_eq ha hb]
  exact ⟨f, g⟩
theorem pk_in {x : Int32} (n N : Nat) (h : n < N) (hx : x = nI n := by rfl) (hN : N < 2 ^ 31 := by omega) : vp_in x N := by
  subst hx
  exact vp_in_nI h hN
theorem pk_cl {x : Int32} (n : Nat) (hx : x = nI n := by rfl) (h : n < 2 ^ 31 := by omega) : x.toNatClampNeg = n := by
  subst hx
  exact nI_clamp h
end
section
/-! ===== pure lists: nodes, chains, sources, stale reads ===== -/
/-- a node of the trace: id, kind, subject, value, owner, pc, snapshot -/
abbrev cp_N : Type := Nat × Int32 × Nat × Int32 × Nat × Nat × (Nat → Int32)
abbrev cp_id (g : cp_N) : Nat := g.1
abbrev cp_k (g : cp_N) : Int32 := g.2.1
abbrev cp_s (g : cp_N) : Nat := g.2.2.1
abbrev cp_v (g : cp_N) : Int32 := g.2.2.2.1
abbrev cp_o (g : cp_N) : Nat := g.2.2.2.2.1
abbrev cp_pc (g : cp_N) : Nat := g.2.2.2.2.2.1
abbrev cp_sn (g : cp_N) : Nat → Int32 := g.2.2.2.2.2.2
/-- an access of cell c -/
def cp_A (c : Nat) (g : cp_N) : Bool := decide ((cp_k g = 1 ∨ cp_k g = 2) ∧ cp_s g = c)
theorem cp_A_iff {c : Nat} {g : cp_N} : cp_A c g = true ↔ (cp_k g = 1 ∨ cp_k g = 2) ∧ cp_s g = c := by
  unfold cp_A; exact decide_eq_true_iff
theorem cp_A_no {c : Nat} {g : cp_N} (h : ¬ ((cp_k g = 1 ∨ cp_k g = 2) ∧ cp_s g = c)) : cp_A c g = false := by
  unfold cp_A; exact decide_eq_false h
abbrev cp_fl (c : Nat) (L : List cp_N) : List cp_N := L.filter (cp_A c)
theorem cp_fl_app (c : Nat) (a b : List cp_N) : cp_fl c (a ++ b) = cp_fl c a ++ cp_fl c b := List.filter_append ..
theorem cp_fl_y {c : Nat} {g : cp_N} {t : List cp_N} (h : cp_A c g = true) : cp_fl c (g :: t) = g :: cp_fl c t := List.filter_cons_of_pos h
theorem cp_fl_n {c : Nat} {g : cp_N} {t : List cp_N} (h : cp_A c g = false) : cp_fl c (g :: t) = cp_fl c t := List.filter_cons_of_neg (by rw [h]; decide)
theorem cp_fl_mem {c : Nat} {g : cp_N} {L : List cp_N} (h : g ∈ cp_fl c L) : g ∈ L ∧ (cp_k g = 1 ∨ cp_k g = 2) ∧ cp_s g = c :=
  ⟨(List.mem_filter.mp h).1, cp_A_iff.mp (List.mem_filter.mp h).2⟩
theorem cp_nc (l : List cp_N) : l = [] ∨ ∃ l' b, l = l' ++ [b] := by
  rcases List.eq_nil_or_concat l with h | ⟨l', b, h⟩
  · exact Or.inl h
  · exact Or.inr ⟨l', b, h.trans List.concat_eq_append⟩
/-- first id, with a default -/
def cp_hx : List cp_N → Int32 → Int32
  | [], d => d
  | g :: _, _ => nI (cp_id g)
/-- last id, with a default -/
def cp_lt : Int32 → List cp_N → Int32
  | d, [] => d
  | _, g :: t => cp_lt (nI (cp_id g)) t
/-- last write's id, with a default -/
def cp_lw : Int32 → List cp_N → Int32
  | d, [] => d
  | d, g :: t => cp_lw (if cp_k g = 2 then nI (cp_id g) else d) t
/-- last written value, with a default -/
def cp_cv : Int32 → List cp_N → Int32
  | s, [] => s
  | s, g :: t => cp_cv (if cp_k g = 2 then cp_v g else s) t
theorem cp_hx_app : ∀ (a b : List cp_N) (d : Int32), cp_hx (a ++ b) d = cp_hx a (cp_hx b d)
  | [], _, _ => rfl
  | _ :: _, _, _ => rfl
theorem cp_lt_app : ∀ (d : Int32) (a b : List cp_N), cp_lt d (a ++ b) = cp_lt (cp_lt d a) b
  | _, [], _ => rfl
  | _, g :: t, b => cp_lt_app (nI (cp_id g)) t b
theorem cp_lw_app : ∀ (d : Int32) (a b : List cp_N), cp_lw d (a ++ b) = cp_lw (cp_lw d a) b
  | _, [], _ => rfl
  | d, g :: t, b => cp_lw_app (if cp_k g = 2 then nI (cp_id g) else d) t b
theorem cp_cv_app : ∀ (d : Int32) (a b : List cp_N), cp_cv d (a ++ b) = cp_cv (cp_cv d a) b
  | _, [], _ => rfl
  | d, g :: t, b => cp_cv_app (if cp_k g = 2 then cp_v g else d) t b
theorem cp_lt_snoc (d : Int32) (a : List cp_N) (g : cp_N) : cp_lt d (a ++ [g]) = nI (cp_id g) := by
  rw [cp_lt_app]; rfl
/-- the store that a trace leaves -/
def cp_sto (base : Nat → Int32) (T : List cp_N) (c : Nat) : Int32 := cp_cv (base c) (cp_fl c T)
theorem cp_sto_skip {base : Nat → Int32} {T : List cp_N} {g : cp_N} {c : Nat} (h : ¬ (cp_k g = 2 ∧ cp_s g = c)) : cp_sto base (T ++ [g]) c = cp_sto base T c := by
  unfold cp_sto
  rw [cp_fl_app, cp_cv_app]
  by_cases hA : cp_A c g = true
  · rw [cp_fl_y hA]
    have h2 := cp_A_iff.mp hA
    have h3 : ¬ cp_k g = 2 := fun z => h ⟨z, h2.2⟩
    show cp_cv (if cp_k g = 2 then cp_v g else _) [] = _
    rw [if_neg h3]; rfl
  · rw [cp_fl_n (by simpa using hA)]; rfl
theorem cp_sto_w {base : Nat → Int32} {T : List cp_N} {g : cp_N} (h : cp_k g = 2) : cp_sto base (T ++ [g]) (cp_s g) = cp_v g := by
  unfold cp_sto
  rw [cp_fl_app, cp_cv_app, cp_fl_y (cp_A_iff.mpr ⟨Or.inr h, rfl⟩)]
  show cp_cv (if cp_k g = 2 then cp_v g else _) [] = _
  rw [if_pos h]; rfl
/-- different ids -/
def cp_U (L : List cp_N) : Prop := L.Pairwise (fun g h => cp_id g ≠ cp_id h)
theorem cp_U_fl {c : Nat} {L : List cp_N} (h : cp_U L) : cp_U (cp_fl c L) := List.Pairwise.filter _ h
theorem cp_U_app {a b : List cp_N} : cp_U (a ++ b) ↔ cp_U a ∧ cp_U b ∧ ∀ g ∈ a, ∀ h ∈ b, cp_id g ≠ cp_id h := List.pairwise_append
theorem cp_U_cons {g : cp_N} {b : List cp_N} : cp_U (g :: b) ↔ (∀ h ∈ b, cp_id g ≠ cp_id h) ∧ cp_U b := List.pairwise_cons
theorem cp_U_inj {L : List cp_N} (u : cp_U L) {g h : cp_N} (hg : g ∈ L) (hh : h ∈ L) (e : cp_id g = cp_id h) : g = h := by
  induction L with
  | nil => cases hg
  | cons x t ih =>
    have u' := cp_U_cons.mp u
    rcases List.mem_cons.mp hg with rfl | hg'
    · rcases List.mem_cons.mp hh with rfl | hh'
      · rfl
      · exact absurd e (u'.1 _ hh')
    · rcases List.mem_cons.mp hh with rfl | hh'
      · exact absurd e.symm (u'.1 _ hg')
      · exact ih u'.2 hg' hh'
/-- a segment of a doubly linked list -/
def cp_G (pv nx : Nat → Int32) : Int32 → List cp_N → Int32 → Prop
  | _, [], _ => True
  | pr, g :: t, d => pv (cp_id g) = pr ∧ nx (cp_id g) = cp_hx t d ∧ cp_G pv nx (nI (cp_id g)) t d
theorem cp_G_app {pv nx : Nat → Int32} : ∀ (pr : Int32) (p q : List cp_N) (d : Int32), cp_G pv nx pr (p ++ q) d ↔ cp_G pv nx pr p (cp_hx q d) ∧ cp_G pv nx (cp_lt pr p) q d
  | pr, [], q, d => by show _ ↔ True ∧ _; rw [true_and]; rfl
  | pr, g :: t, q, d => by
    have ih := cp_G_app (pv := pv) (nx := nx) (nI (cp_id g)) t q d
    show pv (cp_id g) = pr ∧ nx (cp_id g) = cp_hx (t ++ q) d ∧ cp_G pv nx (nI (cp_id g)) (t ++ q) d ↔ (pv (cp_id g) = pr ∧ nx (cp_id g) = cp_hx t (cp_hx q d) ∧ cp_G pv nx (nI (cp_id g)) t (cp_hx q d)) ∧ cp_G pv nx (cp_lt (nI (cp_id g)) t) q d
    rw [ih, cp_hx_app, and_assoc, and_assoc]
theorem cp_G_fr {pv nx pv' nx' : Nat → Int32} : ∀ (pr : Int32) (l : List cp_N) (d : Int32), (∀ g ∈ l, pv' (cp_id g) = pv (cp_id g) ∧ nx' (cp_id g) = nx (cp_id g)) → cp_G pv nx pr l d → cp_G pv' nx' pr l d
  | _, [], _, _, _ => trivial
  | _, g :: t, d, hf, h => ⟨(hf g List.mem_cons_self).1.trans h.1, (hf g List.mem_cons_self).2.trans h.2.1, cp_G_fr _ t d (fun x hx => hf x (List.mem_cons_of_mem _ hx)) h.2.2⟩
/-- the right border: nx at the last one -/
theorem cp_G_r {pv nx : Nat → Int32} {pr d d' : Int32} {p : List cp_N} {b : cp_N} (u : cp_U (p ++ [b])) (h : cp_G pv nx pr (p ++ [b]) d) : cp_G pv (upd nx (cp_id b) d') pr (p ++ [b]) d' := by
  rw [cp_G_app] at h ⊢
  have u' := (cp_U_app.mp u).2.2
  refine ⟨cp_G_fr _ _ _ (fun g hg => ⟨rfl, ?_⟩) h.1, h.2.1, ?_, trivial⟩
  · exact pk_un (fun e => u' g hg b List.mem_cons_self e)
  · exact pk_us
/-- the left border: pv at the first one -/
theorem cp_G_l {pv nx : Nat → Int32} {pr pr' d : Int32} {t : List cp_N} {b : cp_N} (u : cp_U (b :: t)) (h : cp_G pv nx pr (b :: t) d) : cp_G (upd pv (cp_id b) pr') nx pr' (b :: t) d := by
  have u' := (cp_U_cons.mp u).1
  refine ⟨pk_us, h.2.1, cp_G_fr _ _ _ (fun g hg => ⟨pk_un (fun e => u' g hg e.symm), rfl⟩) h.2.2⟩
/-- the whole chain -/
def cp_D (h t : Int32) (pv nx : Nat → Int32) (l : List cp_N) : Prop := h = cp_hx l (-1) ∧ t = cp_lt (-1) l ∧ cp_G pv nx (-1) l (-1)
/-- sources -/
def cp_So (src : Nat → Int32) : Int32 → List cp_N → Prop
  | _, [] => True
  | w, g :: t => src (cp_id g) = w ∧ cp_So src (if cp_k g = 2 then nI (cp_id g) else w) t
theorem cp_So_app {src : Nat → Int32} : ∀ (w : Int32) (a b : List cp_N), cp_So src w (a ++ b) ↔ cp_So src w a ∧ cp_So src (cp_lw w a) b
  | w, [], b => by show _ ↔ True ∧ _; rw [true_and]; rfl
  | w, g :: t, b => by
    have ih := cp_So_app (src := src) (if cp_k g = 2 then nI (cp_id g) else w) t b
    show src (cp_id g) = w ∧ cp_So src _ (t ++ b) ↔ (src (cp_id g) = w ∧ cp_So src _ t) ∧ cp_So src (cp_lw _ t) b
    rw [ih, and_assoc]
theorem cp_So_fr {src src' : Nat → Int32} : ∀ (w : Int32) (l : List cp_N), (∀ g ∈ l, src' (cp_id g) = src (cp_id g)) → cp_So src w l → cp_So src' w l
  | _, [], _, _ => trivial
  | _, g :: t, hf, h => ⟨(hf g List.mem_cons_self).trans h.1, cp_So_fr _ t (fun x hx => hf x (List.mem_cons_of_mem _ hx)) h.2⟩
/-- stale reads are queued -/
def cp_SQ (qd : Nat → Int32) : Int32 → List cp_N → Prop
  | _, [] => True
  | s, g :: t => (cp_k g = 1 → cp_v g ≠ s → qd (cp_id g) ≠ 0) ∧ cp_SQ qd (if cp_k g = 2 then cp_v g else s) t
theorem cp_SQ_app {qd : Nat → Int32} : ∀ (s : Int32) (a b : List cp_N), cp_SQ qd s (a ++ b) ↔ cp_SQ qd s a ∧ cp_SQ qd (cp_cv s a) b
  | w, [], b => by show _ ↔ True ∧ _; rw [true_and]; rfl
  | w, g :: t, b => by
    have ih := cp_SQ_app (qd := qd) (if cp_k g = 2 then cp_v g else w) t b
    show (cp_k g = 1 → cp_v g ≠ w → qd (cp_id g) ≠ 0) ∧ cp_SQ qd _ (t ++ b) ↔ ((cp_k g = 1 → cp_v g ≠ w → qd (cp_id g) ≠ 0) ∧ cp_SQ qd _ t) ∧ cp_SQ qd (cp_cv _ t) b
    rw [ih, and_assoc]
theorem cp_SQ_mono {qd qd' : Nat → Int32} : ∀ (s : Int32) (l : List cp_N), (∀ g ∈ l, qd (cp_id g) ≠ 0 → qd' (cp_id g) ≠ 0) → cp_SQ qd s l → cp_SQ qd' s l
  | _, [], _, _ => trivial
  | _, g :: t, hf, h => ⟨fun a b => hf g List.mem_cons_self (h.1 a b), cp_SQ_mono _ t (fun x hx => hf x (List.mem_cons_of_mem _ hx)) h.2⟩
/-- the value behind a source -/
def cp_gv (val : Nat → Int32) (w s : Int32) : Int32 := if 0 ≤ w then val w.toNatClampNeg else s
theorem cp_gv_lw {val : Nat → Int32} : ∀ (l : List cp_N) (w s : Int32), (∀ g ∈ l, cp_id g < 256 ∧ val (cp_id g) = cp_v g) → cp_gv val (cp_lw w l) (cp_cv s l) = cp_gv val (cp_lw w l) s ∧ (cp_gv val w s = s → cp_gv val (cp_lw w l) s = cp_cv s l)
  | [], _, _, _ => ⟨rfl, id⟩
  | g :: t, w, s, hf => by
    by_cases h2 : cp_k g = 2
    · show cp_gv val (cp_lw (if cp_k g = 2 then nI (cp_id g) else w) t) (cp_cv (if cp_k g = 2 then cp_v g else s) t) = cp_gv val (cp_lw (if cp_k g = 2 then nI (cp_id g) else w) t) s ∧ (_ → cp_gv val (cp_lw (if cp_k g = 2 then nI (cp_id g) else w) t) s = cp_cv (if cp_k g = 2 then cp_v g else s) t)
      rw [if_pos h2, if_pos h2]
      have hg := hf g List.mem_cons_self
      have ih := cp_gv_lw t (nI (cp_id g)) (cp_v g) (fun x hx => hf x (List.mem_cons_of_mem _ hx))
      have e0 : ∀ s', cp_gv val (nI (cp_id g)) s' = cp_v g := fun s' => by
        unfold cp_gv; rw [if_pos (nI_pos' (by omega)), nI_clamp (by omega)]; exact hg.2
      have e1 := ih.2 (e0 _)
      have e2 : ∀ s', cp_gv val (cp_lw (nI (cp_id g)) t) s' = cp_gv val (cp_lw (nI (cp_id g)) t) (cp_v g) := by
        intro s'
        have hpos : ∀ (l : List cp_N) (w : Int32), (∀ g ∈ l, cp_id g < 256) → 0 ≤ w → 0 ≤ cp_lw w l := by
          intro l
          induction l with
          | nil => intro w _ h; exact h
          | cons x t ih =>
            intro w hi h
            show 0 ≤ cp_lw (if cp_k x = 2 then nI (cp_id x) else w) t
            refine ih _ (fun y hy => hi y (List.mem_cons_of_mem _ hy)) ?_
            split
            · exact nI_pos' (by have := hi x List.mem_cons_self; omega)
            · exact h
        have hp := hpos t (nI (cp_id g)) (fun x hx => (hf x (List.mem_cons_of_mem _ hx)).1) (nI_pos' (by omega))
        unfold cp_gv
        rw [if_pos hp, if_pos hp]
      refine ⟨?_, fun _ => ?_⟩
      · rw [e2 (cp_cv _ _), e2 s]
      · rw [e2 s, e1]
    · show cp_gv val (cp_lw (if cp_k g = 2 then nI (cp_id g) else w) t) (cp_cv (if cp_k g = 2 then cp_v g else s) t) = cp_gv val (cp_lw (if cp_k g = 2 then nI (cp_id g) else w) t) s ∧ (_ → cp_gv val (cp_lw (if cp_k g = 2 then nI (cp_id g) else w) t) s = cp_cv (if cp_k g = 2 then cp_v g else s) t)
      rw [if_neg h2, if_neg h2]
      exact cp_gv_lw t w s (fun x hx => hf x (List.mem_cons_of_mem _ hx))
theorem cp_gv_m1 {val : Nat → Int32} {s : Int32} : cp_gv val (-1) s = s := if_neg (by decide)
theorem cp_gv_cv {val : Nat → Int32} {l : List cp_N} {s : Int32} (h : ∀ g ∈ l, cp_id g < 256 ∧ val (cp_id g) = cp_v g) : cp_gv val (cp_lw (-1) l) s = cp_cv s l := (cp_gv_lw l (-1) s h).2 cp_gv_m1
/-- the next pointers of the time list -/
def cp_Nx (nx : Nat → Int32) : List cp_N → Int32 → Prop
  | [], _ => True
  | g :: t, d => nx (cp_id g) = cp_hx t d ∧ cp_Nx nx t d
theorem cp_Nx_app {nx : Nat → Int32} : ∀ (a b : List cp_N) (d : Int32), cp_Nx nx (a ++ b) d ↔ cp_Nx nx a (cp_hx b d) ∧ cp_Nx nx b d
  | [], b, d => by show _ ↔ True ∧ _; rw [true_and]; rfl
  | g :: t, b, d => by
    have ih := cp_Nx_app (nx := nx) t b d
    show nx (cp_id g) = cp_hx (t ++ b) d ∧ cp_Nx nx (t ++ b) d ↔ (nx (cp_id g) = cp_hx t (cp_hx b d) ∧ cp_Nx nx t (cp_hx b d)) ∧ cp_Nx nx b d
    rw [ih, cp_hx_app, and_assoc]
theorem cp_Nx_fr {nx nx' : Nat → Int32} : ∀ (l : List cp_N) (d : Int32), (∀ g ∈ l, nx' (cp_id g) = nx (cp_id g)) → cp_Nx nx l d → cp_Nx nx' l d
  | [], _, _, _ => trivial
  | g :: t, d, hf, h => ⟨(hf g List.mem_cons_self).trans h.1, cp_Nx_fr t d (fun x hx => hf x (List.mem_cons_of_mem _ hx)) h.2⟩
/-- length of a list without repetitions -/
theorem cp_len : ∀ (l l' : List Nat), l.Nodup → (∀ x ∈ l, x ∈ l') → l.length ≤ l'.length
  | [], _, _, _ => Nat.zero_le _
  | x :: t, l', hn, hs => by
    have hx := hs x List.mem_cons_self
    have hn' := List.nodup_cons.mp hn
    have ih := cp_len t (l'.erase x) hn'.2 (fun y hy => (List.mem_erase_of_ne (fun e : y = x => hn'.1 (by rw [← e]; exact hy))).mpr (hs y (List.mem_cons_of_mem _ hy)))
    rw [List.length_erase_of_mem hx] at ih
    have : 0 < l'.length := List.length_pos_of_mem hx
    show t.length + 1 ≤ _
    omega
end
section
/-! ===== the machine: replay and true runs ===== -/
/-- enter id, function, argument, pc, registers -/
abbrev cp_F : Type := Nat × Nat × Int32 × Nat × (Nat → Int32)
/-- cells, body sizes, op, a, b -/
abbrev cp_C : Type := Int32 × (Nat → Int32) × (Nat → Int32) × (Nat → Int32) × (Nat → Int32)
def cp_ad (cl v : Int32) : Int32 := if 0 ≤ v - v / cl * cl then v - v / cl * cl else (v - v / cl * cl) + cl
def cp_adr (cl v : Int32) : Nat := (cp_ad cl v).toNatClampNeg
theorem cp_ad_nI {cN : Nat} (h2 : 2 ≤ cN) (h16 : cN ≤ 16) (v : Int32) : cp_ad (nI cN) v = nI (cp_adr (nI cN) v) ∧ cp_adr (nI cN) v < cN := by
  have hc : (nI cN).toInt = (cN : Int) := nI_toInt (by omega)
  have hr := rem_toInt v (nI cN)
  have hb := tmod_bounds (a := v.toInt) (M := (nI cN).toInt) (by rw [hc]; omega)
  rw [← hr, hc] at hb
  have key : 0 ≤ (cp_ad (nI cN) v).toInt ∧ (cp_ad (nI cN) v).toInt < cN := by
    unfold cp_ad
    generalize v - v / nI cN * nI cN = x at hb
    split
    · rename_i h0
      rw [Int32.le_iff_toInt_le, Int32.toInt_zero] at h0
      exact ⟨h0, hb.2⟩
    · rename_i h0
      rw [Int32.le_iff_toInt_le, Int32.toInt_zero] at h0
      have e : (x + nI cN).toInt = x.toInt + cN := by
        rw [Int32.toInt_add, hc]
        exact Int.bmod_eq_of_le (by omega) (by omega)
      rw [e]
      omega
  have hn : ¬ cp_ad (nI cN) v < 0 := by
    rw [Int32.lt_iff_toInt_lt, Int32.toInt_zero]; omega
  obtain ⟨j, hj, e⟩ := nI_of hn
  unfold cp_adr
  rw [e, nI_clamp hj]
  rw [e, nI_toInt hj] at key
  exact ⟨rfl, by omega⟩
def cp_nf (g : cp_N) : cp_F := (cp_id g, cp_s g, cp_v g, 0, upd (fun _ => 0) 0 (cp_v g))
def cp_bz (C : cp_C) (f : Nat) : Nat := (C.2.1 f).toNatClampNeg
def cp_op (C : cp_C) (A : cp_F) : Int32 := C.2.2.1 (A.2.1 * 16 + A.2.2.2.1)
def cp_ra (C : cp_C) (A : cp_F) : Nat := (C.2.2.2.1 (A.2.1 * 16 + A.2.2.2.1)).toNatClampNeg
def cp_rb (C : cp_C) (A : cp_F) : Int32 := C.2.2.2.2 (A.2.1 * 16 + A.2.2.2.1)
/-- the register that b names -/
def cp_vb (C : cp_C) (A : cp_F) : Int32 := A.2.2.2.2 (cp_rb C A).toNatClampNeg
def cp_va (C : cp_C) (A : cp_F) : Int32 := A.2.2.2.2 (cp_ra C A)
/-- the frame with pc and registers set -/
def cp_ps (A : cp_F) (pc : Nat) (rg : Nat → Int32) : cp_F := (A.1, A.2.1, A.2.2.1, pc, rg)
abbrev cp_nx (A : cp_F) : cp_F := cp_ps A (A.2.2.2.1 + 1) A.2.2.2.2
def cp_sil (C : cp_C) (A A' : cp_F) : Prop :=
  (cp_op C A = 0 ∧ A' = cp_ps A (A.2.2.2.1 + 1) (upd A.2.2.2.2 (cp_ra C A) (cp_rb C A))) ∨
  (cp_op C A = 1 ∧ A' = cp_ps A (A.2.2.2.1 + 1) (upd A.2.2.2.2 (cp_ra C A) (cp_vb C A))) ∨
  (cp_op C A = 2 ∧ A' = cp_ps A (A.2.2.2.1 + 1) (upd A.2.2.2.2 (cp_ra C A) (cp_va C A + cp_vb C A))) ∨
  (cp_op C A = 3 ∧ A' = cp_ps A (A.2.2.2.1 + 1) (upd A.2.2.2.2 (cp_ra C A) (cp_va C A - cp_vb C A))) ∨
  (cp_op C A = 4 ∧ A' = cp_ps A (A.2.2.2.1 + 1) (upd A.2.2.2.2 (cp_ra C A) (cp_va C A * cp_vb C A))) ∨
  (cp_op C A = 5 ∧ cp_vb C A ≤ cp_va C A ∧ A' = cp_ps A (A.2.2.2.1 + 1) (upd A.2.2.2.2 (cp_ra C A) 0)) ∨
  (cp_op C A = 5 ∧ ¬ cp_vb C A ≤ cp_va C A ∧ A' = cp_ps A (A.2.2.2.1 + 1) (upd A.2.2.2.2 (cp_ra C A) 1)) ∨
  (cp_op C A = 6 ∧ A' = cp_ps A (A.2.2.2.1 + 1) (upd A.2.2.2.2 (cp_ra C A) (cp_va C A + cp_rb C A))) ∨
  (cp_op C A = 7 ∧ cp_va C A = 0 ∧ A' = cp_ps A (A.2.2.2.1 + 1 + (cp_rb C A).toNatClampNeg) A.2.2.2.2) ∨
  (cp_op C A = 7 ∧ ¬ cp_va C A = 0 ∧ A' = cp_nx A)
/-- a silent step of the top frame -/
def cp_OT (C : cp_C) (V V' : List cp_F) : Prop :=
  ∃ (A A' : cp_F) (R : List cp_F), V = A :: R ∧ A.2.2.2.1 < cp_bz C A.2.1 ∧ cp_sil C A A' ∧ V' = A' :: R
/-- a step of the top frame that makes the entry g -/
def cp_OC (C : cp_C) (V : List cp_F) (g : cp_N) (V' : List cp_F) : Prop :=
  ∃ (A : cp_F) (R : List cp_F), V = A :: R ∧
   ((A.2.2.2.1 < cp_bz C A.2.1 ∧ cp_op C A = 8 ∧ cp_k g = 1 ∧ cp_s g = cp_adr C.1 (cp_vb C A) ∧ cp_o g = A.1 ∧ cp_pc g = A.2.2.2.1 ∧ cp_sn g = A.2.2.2.2 ∧ V' = cp_ps A (A.2.2.2.1 + 1) (upd A.2.2.2.2 (cp_ra C A) (cp_v g)) :: R) ∨
    (A.2.2.2.1 < cp_bz C A.2.1 ∧ cp_op C A = 9 ∧ cp_k g = 2 ∧ cp_s g = cp_adr C.1 (cp_vb C A) ∧ cp_v g = cp_va C A ∧ cp_o g = A.1 ∧ V' = cp_nx A :: R) ∨
    (cp_bz C A.2.1 ≤ A.2.2.2.1 ∧ cp_k g = 3 ∧ cp_s g = A.2.1 ∧ cp_v g = A.2.2.1 ∧ cp_o g = A.1 ∧ V' = R) ∨
    (A.2.2.2.1 < cp_bz C A.2.1 ∧ cp_op C A = 10 ∧ cp_k g = 0 ∧ cp_s g = cp_ra C A ∧ cp_v g = cp_vb C A ∧ cp_o g = cp_id g ∧ V' = cp_nf g :: cp_nx A :: R))
/-- replay of W from V down to nothing -/
def cp_OR (C : cp_C) : Nat → List cp_F → List cp_N → Prop
  | 0, V, W => V = [] ∧ W = []
  | n + 1, V, W => (∃ V', cp_OT C V V' ∧ cp_OR C n V' W) ∨ (∃ g V' W', W = g :: W' ∧ cp_OC C V g V' ∧ cp_OR C n V' W')
def cp_Rp (C : cp_C) (V : List cp_F) (W : List cp_N) : Prop := ∃ n, cp_OR C n V W
/-- a step of the true machine -/
def cp_MS (C : cp_C) (base : Nat → Int32) (st : List cp_F) (T : List cp_N) (st' : List cp_F) (T' : List cp_N) : Prop :=
  (cp_OT C st st' ∧ T' = T) ∨ (∃ g, cp_OC C st g st' ∧ (cp_k g = 1 → cp_v g = cp_sto base T (cp_s g)) ∧ T' = T ++ [g])
def cp_RS (C : cp_C) (base : Nat → Int32) : Nat → List cp_F → List cp_N → List cp_F → List cp_N → Prop
  | 0, st, T, st', T' => st = st' ∧ T = T'
  | n + 1, st, T, st', T' => ∃ s1 T1, cp_MS C base st T s1 T1 ∧ cp_RS C base n s1 T1 st' T'
theorem cp_RS_trans {C : cp_C} {base : Nat → Int32} : ∀ (n m : Nat) (a : List cp_F) (ta : List cp_N) (b : List cp_F) (tb : List cp_N) (c : List cp_F) (tc : List cp_N), cp_RS C base n a ta b tb → cp_RS C base m b tb c tc → ∃ k, cp_RS C base k a ta c tc
  | 0, m, _, _, _, _, _, _, h, h' => by obtain ⟨rfl, rfl⟩ := h; exact ⟨m, h'⟩
  | n + 1, m, a, ta, b, tb, c, tc, h, h' => by
    obtain ⟨s1, T1, hm, hr⟩ := h
    obtain ⟨k, hk⟩ := cp_RS_trans n m s1 T1 b tb c tc hr h'
    exact ⟨k + 1, s1, T1, hm, hk⟩
theorem cp_RS_one {C : cp_C} {base : Nat → Int32} {a b : List cp_F} {ta tb : List cp_N} (h : cp_MS C base a ta b tb) : cp_RS C base 1 a ta b tb := ⟨b, tb, h, rfl, rfl⟩
/-- the true machine's reachable points -/
def cp_Re (C : cp_C) (base : Nat → Int32) (g0 : cp_N) (st : List cp_F) (T : List cp_N) : Prop := ∃ n, cp_RS C base n [cp_nf g0] [g0] st T
theorem cp_Re_ms {C : cp_C} {base : Nat → Int32} {g0 : cp_N} {a b : List cp_F} {ta tb : List cp_N} (h : cp_Re C base g0 a ta) (h' : cp_MS C base a ta b tb) : cp_Re C base g0 b tb := by
  obtain ⟨n, h⟩ := h
  exact cp_RS_trans _ _ _ _ _ _ _ _ h (cp_RS_one h')
theorem cp_Re_rs {C : cp_C} {base : Nat → Int32} {g0 : cp_N} {n : Nat} {a b : List cp_F} {ta tb : List cp_N} (h : cp_Re C base g0 a ta) (h' : cp_RS C base n a ta b tb) : cp_Re C base g0 b tb := by
  obtain ⟨m, h⟩ := h
  exact cp_RS_trans _ _ _ _ _ _ _ _ h h'
/-- contexts -/
theorem cp_OT_cut {C : cp_C} {A : cp_F} {V1 V2 V' : List cp_F} (h : cp_OT C (A :: V1 ++ V2) V') : ∃ V1', V' = V1' ++ V2 ∧ cp_OT C (A :: V1) V1' := by
  obtain ⟨B, B', R, e, hp, hs, rfl⟩ := h
  obtain ⟨rfl, rfl⟩ : A = B ∧ V1 ++ V2 = R := List.cons.inj e
  exact ⟨B' :: V1, rfl, A, B', V1, rfl, hp, hs, rfl⟩
theorem cp_OC_cut {C : cp_C} {A : cp_F} {g : cp_N} {V1 V2 V' : List cp_F} (h : cp_OC C (A :: V1 ++ V2) g V') : ∃ V1', V' = V1' ++ V2 ∧ cp_OC C (A :: V1) g V1' := by
  obtain ⟨B, R, e, h⟩ := h
  obtain ⟨rfl, rfl⟩ : A = B ∧ V1 ++ V2 = R := List.cons.inj e
  rcases h with ⟨h1, h2, h3, h4, h5, h6, h7, rfl⟩ | ⟨h1, h2, h3, h4, h5, h6, rfl⟩ | ⟨h1, h2, h3, h4, h5, rfl⟩ | ⟨h1, h2, h3, h4, h5, h6, rfl⟩
  · exact ⟨_ :: V1, rfl, A, V1, rfl, Or.inl ⟨h1, h2, h3, h4, h5, h6, h7, rfl⟩⟩
  · exact ⟨_ :: V1, rfl, A, V1, rfl, Or.inr (Or.inl ⟨h1, h2, h3, h4, h5, h6, rfl⟩)⟩
  · exact ⟨V1, rfl, A, V1, rfl, Or.inr (Or.inr (Or.inl ⟨h1, h2, h3, h4, h5, rfl⟩))⟩
  · exact ⟨_ :: _ :: V1, rfl, A, V1, rfl, Or.inr (Or.inr (Or.inr ⟨h1, h2, h3, h4, h5, h6, rfl⟩))⟩
theorem cp_OT_ext {C : cp_C} {V V' : List cp_F} (S : List cp_F) (h : cp_OT C V V') : cp_OT C (V ++ S) (V' ++ S) := by
  obtain ⟨B, B', R, rfl, hp, hs, rfl⟩ := h
  exact ⟨B, B', R ++ S, rfl, hp, hs, rfl⟩
theorem cp_OC_ext {C : cp_C} {V V' : List cp_F} {g : cp_N} (S : List cp_F) (h : cp_OC C V g V') : cp_OC C (V ++ S) g (V' ++ S) := by
  obtain ⟨A, R, rfl, h⟩ := h
  refine ⟨A, R ++ S, rfl, ?_⟩
  rcases h with ⟨h1, h2, h3, h4, h5, h6, h7, rfl⟩ | ⟨h1, h2, h3, h4, h5, h6, rfl⟩ | ⟨h1, h2, h3, h4, h5, rfl⟩ | ⟨h1, h2, h3, h4, h5, h6, rfl⟩
  · exact Or.inl ⟨h1, h2, h3, h4, h5, h6, h7, rfl⟩
  · exact Or.inr (Or.inl ⟨h1, h2, h3, h4, h5, h6, rfl⟩)
  · exact Or.inr (Or.inr (Or.inl ⟨h1, h2, h3, h4, h5, rfl⟩))
  · exact Or.inr (Or.inr (Or.inr ⟨h1, h2, h3, h4, h5, h6, rfl⟩))
theorem cp_OT_nil {C : cp_C} {V' : List cp_F} (h : cp_OT C [] V') : False := by
  obtain ⟨_, _, _, e, _⟩ := h; cases e
theorem cp_OC_nil {C : cp_C} {V' : List cp_F} {g : cp_N} (h : cp_OC C [] g V') : False := by
  obtain ⟨_, _, e, _⟩ := h; cases e
theorem cp_OR_nil {C : cp_C} {W : List cp_N} : ∀ {n : Nat}, cp_OR C n [] W → W = []
  | 0, h => h.2
  | n + 1, h => by
    rcases h with ⟨_, h, _⟩ | ⟨_, _, _, _, h, _⟩
    · exact (cp_OT_nil h).elim
    · exact (cp_OC_nil h).elim
theorem cp_OR_split {C : cp_C} : ∀ (n : Nat) (V1 V2 : List cp_F) (W : List cp_N), cp_OR C n (V1 ++ V2) W → ∃ W1 W2 n1 n2, W = W1 ++ W2 ∧ cp_OR C n1 V1 W1 ∧ cp_OR C n2 V2 W2 ∧ n1 ≤ n ∧ n2 ≤ n
  | n, [], V2, W, h => ⟨[], W, 0, n, rfl, ⟨rfl, rfl⟩, h, Nat.zero_le _, Nat.le_refl _⟩
  | 0, A :: V1, V2, W, h => by have := h.1; cases this
  | n + 1, A :: V1, V2, W, h => by
    rcases h with ⟨V', ht, hr⟩ | ⟨g, V', W', rfl, hc, hr⟩
    · obtain ⟨V1', rfl, ht'⟩ := cp_OT_cut ht
      obtain ⟨W1, W2, n1, n2, rfl, h1, h2, l1, l2⟩ := cp_OR_split n V1' V2 W hr
      exact ⟨W1, W2, n1 + 1, n2, rfl, Or.inl ⟨V1', ht', h1⟩, h2, by omega, by omega⟩
    · obtain ⟨V1', rfl, hc'⟩ := cp_OC_cut hc
      obtain ⟨W1, W2, n1, n2, rfl, h1, h2, l1, l2⟩ := cp_OR_split n V1' V2 W' hr
      exact ⟨g :: W1, W2, n1 + 1, n2, rfl, Or.inr ⟨g, V1', W1, rfl, hc', h1⟩, h2, by omega, by omega⟩
theorem cp_sil_same {C : cp_C} {A A' : cp_F} (h : cp_sil C A A') : A'.1 = A.1 ∧ A'.2.1 = A.2.1 ∧ A'.2.2.1 = A.2.2.1 := by
  rcases h with ⟨_, rfl⟩ | ⟨_, rfl⟩ | ⟨_, rfl⟩ | ⟨_, rfl⟩ | ⟨_, rfl⟩ | ⟨_, _, rfl⟩ | ⟨_, _, rfl⟩ | ⟨_, rfl⟩ | ⟨_, _, rfl⟩ | ⟨_, _, rfl⟩ <;> exact ⟨rfl, rfl, rfl⟩
/-- each ENTER of O has a whole activation behind it, inside O -/
def cp_Sg (C : cp_C) (O : List cp_N) : Prop := ∀ a g b, O = a ++ g :: b → cp_k g = 0 → ∃ c d, b = c ++ d ∧ cp_Rp C [cp_nf g] c
theorem cp_Sg_suf {C : cp_C} {a b : List cp_N} (h : cp_Sg C (a ++ b)) : cp_Sg C b := by
  intro x g y e k
  exact h (a ++ x) g y (by rw [e, List.append_assoc]) k
theorem cp_Sg_nil {C : cp_C} : cp_Sg C [] := by
  intro a g b e _
  cases a <;> cases e
theorem cp_OR_Sg {C : cp_C} : ∀ (n : Nat) (V : List cp_F) (W : List cp_N), cp_OR C n V W → cp_Sg C W
  | 0, V, W, h => by obtain ⟨_, rfl⟩ := h; exact cp_Sg_nil
  | n + 1, V, W, h => by
    rcases h with ⟨V', ht, hr⟩ | ⟨g, V', W', rfl, hc, hr⟩
    · exact cp_OR_Sg n V' W hr
    · have ih := cp_OR_Sg n V' W' hr
      intro a x b e k
      cases a with
      | cons y a' =>
        obtain ⟨_, e'⟩ := List.cons.inj e
        exact ih a' x b e' k
      | nil =>
        obtain ⟨rfl, rfl⟩ := List.cons.inj e
        obtain ⟨A, R, rfl, hc⟩ := hc
        rcases hc with ⟨h1, h2, h3, _⟩ | ⟨h1, h2, h3, _⟩ | ⟨h1, h2, _⟩ | ⟨h1, h2, h3, h4, h5, h6, rfl⟩
        · rw [k] at h3; exact absurd h3 (by decide)
        · rw [k] at h3; exact absurd h3 (by decide)
        · rw [k] at h2; exact absurd h2 (by decide)
        · obtain ⟨W1, W2, n1, n2, e, k1, k2, _⟩ := cp_OR_split n [cp_nf g] (cp_nx A :: R) W' hr
          exact ⟨W1, W2, e, n1, k1⟩
theorem cp_Sg_cons {C : cp_C} {g : cp_N} {t : List cp_N} (hg : cp_k g = 0 → ∃ c d, t = c ++ d ∧ cp_Rp C [cp_nf g] c) (h : cp_Sg C t) : cp_Sg C (g :: t) := by
  intro a x b e k
  cases a with
  | cons y a' =>
    obtain ⟨_, e'⟩ := List.cons.inj e
    exact h a' x b e' k
  | nil =>
    obtain ⟨rfl, rfl⟩ := List.cons.inj e
    exact hg k
theorem cp_Sg_app {C : cp_C} {b : List cp_N} (hb : cp_Sg C b) : ∀ {a : List cp_N}, cp_Sg C a → cp_Sg C (a ++ b)
  | [], _ => hb
  | g :: t, h => by
    refine cp_Sg_cons (fun k => ?_) (cp_Sg_app hb (cp_Sg_suf (a := [g]) h))
    obtain ⟨c, d, rfl, hr⟩ := h [] g t rfl k
    exact ⟨c, d ++ b, List.append_assoc .., hr⟩
/-- a whole activation ends with its LEAVE; what is before it is a proper obsolete part -/
theorem cp_OR_last {C : cp_C} : ∀ (N n : Nat) (A : cp_F) (W : List cp_N), n ≤ N → cp_OR C n [A] W → ∃ O z, W = O ++ [z] ∧ cp_k z = 3 ∧ cp_s z = A.2.1 ∧ cp_v z = A.2.2.1 ∧ cp_o z = A.1 ∧ cp_Sg C O
  | _, 0, A, W, _, h => by have := h.1; cases this
  | 0, n + 1, A, W, hn, h => by omega
  | N + 1, n + 1, A, W, hn, h => by
    rcases h with ⟨V', ht, hr⟩ | ⟨g, V', W', rfl, hc, hr⟩
    · obtain ⟨B, B', R, e, hp, hs, rfl⟩ := ht
      obtain ⟨rfl, rfl⟩ : A = B ∧ [] = R := List.cons.inj e
      obtain ⟨O, z, rfl, h1, h2, h3, h4, h5⟩ := cp_OR_last N n B' W (by omega) hr
      have hq := cp_sil_same hs
      exact ⟨O, z, rfl, h1, h2.trans hq.2.1, h3.trans hq.2.2, h4.trans hq.1, h5⟩
    · obtain ⟨B, R, e, hc⟩ := hc
      obtain ⟨rfl, rfl⟩ : A = B ∧ [] = R := List.cons.inj e
      rcases hc with ⟨h1, h2, h3, h4, h5, h6, h7, rfl⟩ | ⟨h1, h2, h3, h4, h5, h6, rfl⟩ | ⟨h1, h2, h3, h4, h5, rfl⟩ | ⟨h1, h2, h3, h4, h5, h6, rfl⟩
      · obtain ⟨O, z, rfl, k1, k2, k3, k4, k5⟩ := cp_OR_last N n _ W' (by omega) hr
        exact ⟨g :: O, z, rfl, k1, k2, k3, k4, cp_Sg_cons (fun k => by rw [k] at h3; exact absurd h3 (by decide)) k5⟩
      · obtain ⟨O, z, rfl, k1, k2, k3, k4, k5⟩ := cp_OR_last N n _ W' (by omega) hr
        exact ⟨g :: O, z, rfl, k1, k2, k3, k4, cp_Sg_cons (fun k => by rw [k] at h3; exact absurd h3 (by decide)) k5⟩
      · have e := cp_OR_nil hr
        subst e
        exact ⟨[], g, rfl, h2, h3, h4, h5, cp_Sg_nil⟩
      · obtain ⟨W1, W2, n1, n2, rfl, k1, k2, l1, l2⟩ := cp_OR_split n [cp_nf g] [cp_nx A] W' hr
        obtain ⟨O, z, rfl, q1, q2, q3, q4, q5⟩ := cp_OR_last N n2 _ W2 (by omega) k2
        exact ⟨g :: (W1 ++ O), z, by simp, q1, q2, q3, q4, cp_Sg_cons (fun _ => ⟨W1, O, rfl, n1, k1⟩) (cp_Sg_app q5 (cp_OR_Sg n1 _ _ k1))⟩
/-- the true machine passes over what is not stale -/
theorem cp_pass {C : cp_C} {base : Nat → Int32} {P : Nat → Nat → Int32 → Prop} : ∀ (n : Nat) (V : List cp_F) (W1 W2 T : List cp_N) (S : List cp_F), cp_OR C n V (W1 ++ W2) →
    (∀ a g b, W1 = a ++ g :: b → cp_k g = 1 → cp_v g = cp_sto base (T ++ a) (cp_s g)) → (∀ B ∈ V, P B.1 B.2.1 B.2.2.1) → (∀ g ∈ W1, cp_k g = 0 → P (cp_id g) (cp_s g) (cp_v g)) →
    ∃ V1 m, cp_RS C base m (V ++ S) T (V1 ++ S) (T ++ W1) ∧ (∀ B ∈ V1, P B.1 B.2.1 B.2.2.1) ∧ ((W2 = [] ∧ V1 = []) ∨ (∃ r W2' V' n', W2 = r :: W2' ∧ cp_OC C V1 r V' ∧ cp_OR C n' V' W2'))
  | 0, V, W1, W2, T, S, h, hc, hP, hQ => by
    obtain ⟨rfl, e⟩ := h
    obtain ⟨rfl, rfl⟩ := List.append_eq_nil_iff.mp e
    exact ⟨[], 0, ⟨rfl, (List.append_nil T).symm⟩, hP, Or.inl ⟨rfl, rfl⟩⟩
  | n + 1, V, W1, W2, T, S, h, hc, hP, hQ => by
    rcases h with ⟨V', ht, hr⟩ | ⟨g, V', W', e, hg, hr⟩
    · have hP' : ∀ B ∈ V', P B.1 B.2.1 B.2.2.1 := by
        obtain ⟨B, B', R, rfl, hp, hs, rfl⟩ := ht
        intro D hD
        have hq := cp_sil_same hs
        rcases List.mem_cons.mp hD with rfl | hD
        · rw [hq.1, hq.2.1, hq.2.2]; exact hP _ List.mem_cons_self
        · exact hP _ (List.mem_cons_of_mem _ hD)
      obtain ⟨V1, m, h1, h2, h3⟩ := cp_pass n V' W1 W2 T S hr hc hP' hQ
      exact ⟨V1, m + 1, ⟨V' ++ S, T, Or.inl ⟨cp_OT_ext S ht, rfl⟩, h1⟩, h2, h3⟩
    · cases W1 with
      | nil =>
        have e' : W2 = g :: W' := e
        exact ⟨V, 0, ⟨rfl, (List.append_nil T).symm⟩, hP, Or.inr ⟨g, W', V', n, e', hg, hr⟩⟩
      | cons x W1' =>
        obtain ⟨rfl, e'⟩ := List.cons.inj e
        have hP' : ∀ B ∈ V', P B.1 B.2.1 B.2.2.1 := by
          obtain ⟨A, R, rfl, hc'⟩ := hg
          intro D hD
          rcases hc' with ⟨h1, h2, h3, h4, h5, h6, h7, rfl⟩ | ⟨h1, h2, h3, h4, h5, h6, rfl⟩ | ⟨h1, h2, h3, h4, h5, rfl⟩ | ⟨h1, h2, h3, h4, h5, h6, rfl⟩
          · rcases List.mem_cons.mp hD with rfl | hD
            · exact hP A List.mem_cons_self
            · exact hP _ (List.mem_cons_of_mem _ hD)
          · rcases List.mem_cons.mp hD with rfl | hD
            · exact hP A List.mem_cons_self
            · exact hP _ (List.mem_cons_of_mem _ hD)
          · exact hP _ (List.mem_cons_of_mem _ hD)
          · rcases List.mem_cons.mp hD with rfl | hD
            · exact hQ _ List.mem_cons_self h3
            · rcases List.mem_cons.mp hD with rfl | hD
              · exact hP A List.mem_cons_self
              · exact hP _ (List.mem_cons_of_mem _ hD)
        have hc' : ∀ a g b, W1' = a ++ g :: b → cp_k g = 1 → cp_v g = cp_sto base ((T ++ [x]) ++ a) (cp_s g) := by
          intro a y b e2 k
          have := hc (x :: a) y b (by rw [e2]; rfl) k
          rw [this, List.append_assoc]; rfl
        have e3 : W' = W1' ++ W2 := e'.symm
        subst e3
        obtain ⟨V1, m, h1, h2, h3⟩ := cp_pass n V' W1' W2 (T ++ [x]) S hr hc' hP' (fun y hy => hQ y (List.mem_cons_of_mem _ hy))
        refine ⟨V1, m + 1, ⟨V' ++ S, T ++ [x], Or.inr ⟨x, cp_OC_ext S hg, fun k => ?_, rfl⟩, ?_⟩, h2, h3⟩
        · have := hc [] x W1' rfl k
          rw [List.append_nil] at this; exact this
        · have : T ++ [x] ++ W1' = T ++ (x :: W1') := by simp
          rw [this] at h1; exact h1
/-- reads of a true run agree with the store -/
theorem cp_RS_con {C : cp_C} {base : Nat → Int32} : ∀ (n : Nat) (st : List cp_F) (T : List cp_N) (st' : List cp_F) (T' : List cp_N), cp_RS C base n st T st' T' →
    (∀ a g b, T = a ++ g :: b → cp_k g = 1 → cp_v g = cp_sto base a (cp_s g)) → ∀ a g b, T' = a ++ g :: b → cp_k g = 1 → cp_v g = cp_sto base a (cp_s g)
  | 0, st, T, st', T', h, hc => by obtain ⟨_, rfl⟩ := h; exact hc
  | n + 1, st, T, st', T', h, hc => by
    obtain ⟨s1, T1, hm, hr⟩ := h
    refine cp_RS_con n s1 T1 st' T' hr ?_
    rcases hm with ⟨_, rfl⟩ | ⟨x, _, hx, rfl⟩
    · exact hc
    · intro a g b e k
      rcases cp_nc b with rfl | ⟨b', y, rfl⟩
      · have := List.append_inj' (s₁ := T) (t₁ := [x]) (s₂ := a) (t₂ := [g]) e rfl
        obtain ⟨rfl, e2⟩ := this
        obtain rfl : x = g := (List.cons.inj e2).1
        exact hx k
      · have e' : T ++ [x] = (a ++ g :: b') ++ [y] := by rw [e]; simp
        have := List.append_inj' e' rfl
        exact hc a g b' this.1 k
theorem cp_Re_con {C : cp_C} {base : Nat → Int32} {g0 : cp_N} (h0 : cp_k g0 = 0) {st : List cp_F} {T : List cp_N} (h : cp_Re C base g0 st T) : ∀ a g b, T = a ++ g :: b → cp_k g = 1 → cp_v g = cp_sto base a (cp_s g) := by
  obtain ⟨n, h⟩ := h
  refine cp_RS_con n _ _ _ _ h ?_
  intro a g b e k
  cases a with
  | nil =>
    obtain ⟨rfl, _⟩ := List.cons.inj e
    rw [h0] at k; exact absurd k (by decide)
  | cons y a' =>
    obtain ⟨_, e'⟩ := List.cons.inj e
    cases a' <;> cases e'
end
section
/-! ===== the frames of X over the machine's stack ===== -/
/-- a frame of X: the frame, zone, wait, leave -/
abbrev cp_X : Type := cp_F × Int32 × Int32 × Int32
abbrev cp_xz (X : cp_X) : Int32 := X.2.1
abbrev cp_xw (X : cp_X) : Int32 := X.2.2.1
abbrev cp_xl (X : cp_X) : Int32 := X.2.2.2
/-- the top frame is being executed -/
def cp_E (C : cp_C) : List cp_X → List cp_F → List cp_N → Prop
  | [], _, _ => False
  | X :: Xs, st, post => ∃ rest, st = X.1 :: rest ∧
      ((cp_xl X = -1 ∧ ((Xs = [] ∧ rest = [] ∧ post = [] ∧ cp_xz X = -1) ∨ (∃ Y Ys, Xs = Y :: Ys ∧ cp_xz X = cp_xz Y ∧ cp_xw Y = -1 ∧ cp_E C Xs rest post))) ∨
       (∃ z O p1 V st' W p', cp_xl X = nI (cp_id z) ∧ cp_xz X = nI (cp_id z) ∧ post = O ++ z :: p1 ∧ cp_k z = 3 ∧ cp_s z = X.1.2.1 ∧ cp_v z = X.1.2.2.1 ∧ cp_o z = X.1.1 ∧ cp_Sg C O ∧
         rest = V ++ st' ∧ p1 = W ++ p' ∧ cp_Rp C V W ∧ ((Xs = [] ∧ st' = [] ∧ p' = []) ∨ (∃ Y Ys, Xs = Y :: Ys ∧ cp_xw Y = cp_lt (nI (cp_id z)) W ∧ cp_E C Xs st' p'))))
/-- the top frame waits (or there is none); z: the last final node -/
def cp_Wt (C : cp_C) (Xs : List cp_X) (z : Int32) (st : List cp_F) (post : List cp_N) : Prop :=
  ∃ V st' W p', st = V ++ st' ∧ post = W ++ p' ∧ cp_Rp C V W ∧ ((Xs = [] ∧ st' = [] ∧ p' = []) ∨ (∃ Y Ys, Xs = Y :: Ys ∧ cp_xw Y = cp_lt z W ∧ cp_E C Xs st' p'))
theorem cp_E_top {C : cp_C} {X X' : cp_X} {Xs : List cp_X} {rest : List cp_F} {post : List cp_N} (h : cp_E C (X :: Xs) (X.1 :: rest) post) (hz : cp_xz X' = cp_xz X) (hl : cp_xl X' = cp_xl X)
    (h1 : X'.1.1 = X.1.1) (h2 : X'.1.2.1 = X.1.2.1) (h3 : X'.1.2.2.1 = X.1.2.2.1) : cp_E C (X' :: Xs) (X'.1 :: rest) post := by
  obtain ⟨r, e, h⟩ := h
  obtain rfl : rest = r := (List.cons.inj e).2
  refine ⟨rest, rfl, ?_⟩
  rcases h with ⟨k, h⟩ | ⟨z, O, p1, V, st', W, p', a1, a2, a3, a4, a5, a6, a7, a8⟩
  · refine Or.inl ⟨hl.trans k, ?_⟩
    rcases h with ⟨a, b, c, d⟩ | ⟨Y, Ys, a, b, c, d⟩
    · exact Or.inl ⟨a, b, c, hz.trans d⟩
    · exact Or.inr ⟨Y, Ys, a, hz.trans b, c, d⟩
  · exact Or.inr ⟨z, O, p1, V, st', W, p', hl.trans a1, hz.trans a2, a3, a4, a5.trans h2.symm, a6.trans h3.symm, a7.trans h1.symm, a8⟩
theorem cp_E_obs {C : cp_C} : ∀ (Xs : List cp_X) (X : cp_X) (st : List cp_F) (post : List cp_N), cp_E C (X :: Xs) st post →
    (cp_xz X = -1 ∧ post = []) ∨ (∃ O z p1, post = O ++ z :: p1 ∧ cp_xz X = nI (cp_id z) ∧ cp_k z = 3 ∧ cp_Sg C O ∧ ∀ O', cp_Sg C O' → cp_E C (X :: Xs) st (O' ++ z :: p1))
  | Xs, X, st, post, h => by
    obtain ⟨r, rfl, h⟩ := h
    rcases h with ⟨k, h⟩ | ⟨z, O, p1, V, st', W, p', a1, a2, a3, a4, a5, a6, a7, a8, a9⟩
    · rcases h with ⟨a, b, c, d⟩ | ⟨Y, Ys, rfl, b, c, d⟩
      · exact Or.inl ⟨d, c⟩
      · rcases cp_E_obs Ys Y r post d with ⟨e1, e2⟩ | ⟨O, z, p1, e1, e2, e3, e4, e5⟩
        · exact Or.inl ⟨b.trans e1, e2⟩
        · exact Or.inr ⟨O, z, p1, e1, b.trans e2, e3, e4, fun O' hO => ⟨r, rfl, Or.inl ⟨k, Or.inr ⟨Y, Ys, rfl, b, c, e5 O' hO⟩⟩⟩⟩
    · exact Or.inr ⟨O, z, p1, a3, a2, a4, a8, fun O' hO => ⟨r, rfl, Or.inr ⟨z, O', p1, V, st', W, p', a1, a2, rfl, a4, a5, a6, a7, hO, a9⟩⟩⟩
/-- a stale read r inside the part that is waited for: the new frame -/
theorem cp_Wt_re {C : cp_C} {Xs : List cp_X} {z : Int32} {S : List cp_F} {A : cp_F} {R : List cp_F} {r : cp_N} {W1 W2 p' : List cp_N} {n : Nat} (hz : ((Xs = [] ∧ S = [] ∧ p' = []) ∨ (∃ Y Ys, Xs = Y :: Ys ∧ cp_xw Y = cp_lt z (W1 ++ r :: W2) ∧ cp_E C Xs S p')))
    (hr : cp_OR C n (A :: R) W2) : ∃ O zl d, W2 = O ++ zl :: d ∧ cp_k zl = 3 ∧ cp_o zl = A.1 ∧
      ∀ X' : cp_X, X'.1.1 = A.1 → X'.1.2.1 = A.2.1 → X'.1.2.2.1 = A.2.2.1 → cp_xz X' = nI (cp_id zl) → cp_xl X' = nI (cp_id zl) → cp_E C (X' :: Xs) (X'.1 :: (R ++ S)) (O ++ zl :: (d ++ p')) := by
  obtain ⟨c, d, n1, n2, rfl, k1, k2, _⟩ := cp_OR_split n [A] R W2 hr
  obtain ⟨O, zl, rfl, q1, q2, q3, q4, q5⟩ := cp_OR_last n1 n1 A c (Nat.le_refl _) k1
  refine ⟨O, zl, d, by simp, q1, q4, fun X' e1 e2 e3 e4 e5 => ?_⟩
  refine ⟨R ++ S, rfl, Or.inr ⟨zl, O, d ++ p', R, S, d, p', e5, e4, rfl, q1, q2.trans e2.symm, q3.trans e3.symm, q4.trans e1.symm, q5, rfl, rfl, ⟨n2, k2⟩, ?_⟩⟩
  rcases hz with h | ⟨Y, Ys, rfl, h1, h2⟩
  · exact Or.inl h
  · refine Or.inr ⟨Y, Ys, rfl, ?_, h2⟩
    rw [h1]
    have : W1 ++ r :: (O ++ [zl] ++ d) = (W1 ++ r :: O) ++ (zl :: d) := by simp
    rw [this, cp_lt_app]
    rfl
end
section
/-! ===== the heap ===== -/
def cp_lb (lab : Nat → Int32) (x : Int32) : Int := (lab x.toNatClampNeg).toInt
/-- what is in the heap: hs entries, each a queued node, all of them once -/
def cp_HB (hs : Nat) (hp qd : Nat → Int32) : Prop :=
  (∀ i, i < hs → ∃ n, n < 256 ∧ hp i = nI n ∧ qd n ≠ 0) ∧ (∀ i j, i < hs → j < hs → hp i = hp j → i = j) ∧ (∀ n, n < 256 → qd n ≠ 0 → ∃ i, i < hs ∧ hp i = nI n)
def cp_HO (hs : Nat) (hp lab : Nat → Int32) : Prop := ∀ i, 0 < i → i < hs → cp_lb lab (hp ((i - 1) / 2)) ≤ cp_lb lab (hp i)
def cp_tr (i j k : Nat) : Nat := if k = j then i else if k = i then j else k
def cp_sw (hp : Nat → Int32) (i j : Nat) : Nat → Int32 := fun k => hp (cp_tr i j k)
theorem cp_tr_lt {i j k n : Nat} (hi : i < n) (hj : j < n) (hk : k < n) : cp_tr i j k < n := by
  unfold cp_tr; split; exact hi; split; exact hj; exact hk
theorem cp_tr_tr (i j k : Nat) : cp_tr i j (cp_tr i j k) = k := by
  unfold cp_tr
  by_cases h1 : k = j
  · rw [if_pos h1]
    by_cases h2 : i = j
    · rw [if_pos h2]; omega
    · rw [if_neg h2, if_pos rfl]; omega
  · rw [if_neg h1]
    by_cases h2 : k = i
    · rw [if_pos h2, if_pos rfl]; omega
    · rw [if_neg h2, if_neg h1, if_neg h2]
theorem cp_tr_l (i j : Nat) : cp_tr i j i = j := by
  unfold cp_tr
  by_cases h : i = j
  · rw [if_pos h]; exact h
  · rw [if_neg h, if_pos rfl]
theorem cp_tr_r (i j : Nat) : cp_tr i j j = i := if_pos rfl
theorem cp_tr_o {i j k : Nat} (h1 : k ≠ i) (h2 : k ≠ j) : cp_tr i j k = k := by
  unfold cp_tr; rw [if_neg h2, if_neg h1]
theorem cp_HB_sw {hs i j : Nat} {hp qd : Nat → Int32} (h : cp_HB hs hp qd) (hi : i < hs) (hj : j < hs) : cp_HB hs (cp_sw hp i j) qd := by
  refine ⟨fun k hk => h.1 _ (cp_tr_lt hi hj hk), fun k l hk hl e => ?_, fun n hn hq => ?_⟩
  · have := h.2.1 _ _ (cp_tr_lt hi hj hk) (cp_tr_lt hi hj hl) e
    have e2 := congrArg (cp_tr i j) this
    rw [cp_tr_tr, cp_tr_tr] at e2
    exact e2
  · obtain ⟨k, hk, e⟩ := h.2.2 n hn hq
    exact ⟨cp_tr i j k, cp_tr_lt hi hj hk, by show hp (cp_tr i j (cp_tr i j k)) = _; rw [cp_tr_tr]; exact e⟩
theorem cp_HB_lt {hs n : Nat} {hp qd : Nat → Int32} (h : cp_HB hs hp qd) (hn : n < 256) (hq : qd n = 0) : hs < 256 := by
  have nd : ((List.range hs).map (fun i => (hp i).toNatClampNeg)).Nodup := by
    rw [List.Nodup, List.pairwise_map]
    refine List.Pairwise.imp_of_mem ?_ List.pairwise_lt_range
    intro a b ha hb hab e
    have ha' := List.mem_range.mp ha
    have hb' := List.mem_range.mp hb
    obtain ⟨x, hx, ex, _⟩ := h.1 a ha'
    obtain ⟨y, hy, ey, _⟩ := h.1 b hb'
    rw [ex, ey, nI_clamp (by omega), nI_clamp (by omega)] at e
    have := h.2.1 a b ha' hb' (by rw [ex, ey, e])
    omega
  have := cp_len _ ((List.range 256).erase n) nd (by
    intro x hx
    obtain ⟨i, hi, rfl⟩ := List.mem_map.mp hx
    obtain ⟨y, hy, ey, hqy⟩ := h.1 i (List.mem_range.mp hi)
    rw [ey, nI_clamp (by omega)]
    refine (List.mem_erase_of_ne (fun e => ?_)).mpr (List.mem_range.mpr hy)
    rw [e] at hqy; exact hqy hq)
  rw [List.length_map, List.length_range, List.length_erase_of_mem (List.mem_range.mpr hn), List.length_range] at this
  omega
theorem cp_HB_le {hs : Nat} {hp qd : Nat → Int32} (h : cp_HB hs hp qd) : hs ≤ 256 := by
  have nd : ((List.range hs).map (fun i => (hp i).toNatClampNeg)).Nodup := by
    rw [List.Nodup, List.pairwise_map]
    refine List.Pairwise.imp_of_mem ?_ List.pairwise_lt_range
    intro a b ha hb hab e
    have ha' := List.mem_range.mp ha
    have hb' := List.mem_range.mp hb
    obtain ⟨x, hx, ex, _⟩ := h.1 a ha'
    obtain ⟨y, hy, ey, _⟩ := h.1 b hb'
    rw [ex, ey, nI_clamp (by omega), nI_clamp (by omega)] at e
    have := h.2.1 a b ha' hb' (by rw [ex, ey, e])
    omega
  have := cp_len _ (List.range 256) nd (by
    intro x hx
    obtain ⟨i, hi, rfl⟩ := List.mem_map.mp hx
    obtain ⟨y, hy, ey, hqy⟩ := h.1 i (List.mem_range.mp hi)
    rw [ey, nI_clamp (by omega)]
    exact List.mem_range.mpr hy)
  rw [List.length_map, List.length_range, List.length_range] at this
  exact this
/-- order but for the hole's own parent (sift up) -/
def cp_OU (hs hole : Nat) (g lab : Nat → Int32) : Prop :=
  (∀ i, 0 < i → i < hs → i ≠ hole → cp_lb lab (g ((i - 1) / 2)) ≤ cp_lb lab (g i)) ∧
  (0 < hole → ∀ i, 0 < i → i < hs → (i - 1) / 2 = hole → cp_lb lab (g ((hole - 1) / 2)) ≤ cp_lb lab (g i))
theorem cp_OU_sw {hs hole : Nat} {g lab : Nat → Int32} (h : cp_OU hs hole g lab) (h0 : 0 < hole) (hl : hole < hs) (hc : cp_lb lab (g hole) < cp_lb lab (g ((hole - 1) / 2))) : cp_OU hs ((hole - 1) / 2) (cp_sw g hole ((hole - 1) / 2)) lab := by
  have hp : (hole - 1) / 2 < hole := by omega
  generalize hq : (hole - 1) / 2 = par at *
  refine ⟨fun i i0 il ne => ?_, fun p0 i i0 il e => ?_⟩
  · show cp_lb lab (g (cp_tr hole par ((i - 1) / 2))) ≤ cp_lb lab (g (cp_tr hole par i))
    by_cases h1 : i = hole
    · subst h1
      rw [cp_tr_l, hq, cp_tr_r]; omega
    · rw [cp_tr_o h1 ne]
      by_cases h2 : (i - 1) / 2 = hole
      · have := h.2 h0 i i0 il h2
        rw [hq] at this
        rw [h2, cp_tr_l]; exact this
      · by_cases h3 : (i - 1) / 2 = par
        · rw [h3, cp_tr_r]
          have := h.1 i i0 il h1
          rw [h3] at this; omega
        · rw [cp_tr_o h2 h3]; exact h.1 i i0 il h1
  · show cp_lb lab (g (cp_tr hole par ((par - 1) / 2))) ≤ cp_lb lab (g (cp_tr hole par i))
    have hpp : (par - 1) / 2 < par := by omega
    rw [cp_tr_o (by omega) (by omega)]
    have a := h.1 par p0 (by omega) (by omega)
    by_cases h1 : i = hole
    · subst h1
      rw [cp_tr_l]; exact a
    · rw [cp_tr_o h1 (by omega)]
      have b := h.1 i i0 il h1
      rw [e] at b; omega
/-- order but for the hole's own children (sift down) -/
def cp_OD (hs hole : Nat) (g lab : Nat → Int32) : Prop :=
  (∀ i, 0 < i → i < hs → (i - 1) / 2 ≠ hole → cp_lb lab (g ((i - 1) / 2)) ≤ cp_lb lab (g i)) ∧
  (0 < hole → ∀ i, 0 < i → i < hs → (i - 1) / 2 = hole → cp_lb lab (g ((hole - 1) / 2)) ≤ cp_lb lab (g i))
theorem cp_OD_sw {hs hole ch : Nat} {g lab : Nat → Int32} (h : cp_OD hs hole g lab) (hpar : (ch - 1) / 2 = hole) (h0 : 0 < ch) (hl : ch < hs) (hc : cp_lb lab (g ch) < cp_lb lab (g hole)) (hs' : ∀ i, 0 < i → i < hs → (i - 1) / 2 = hole → cp_lb lab (g ch) ≤ cp_lb lab (g i)) : cp_OD hs ch (cp_sw g hole ch) lab := by
  have hp : hole < ch := by omega
  refine ⟨fun i i0 il ne => ?_, fun p0 i i0 il e => ?_⟩
  · show cp_lb lab (g (cp_tr hole ch ((i - 1) / 2))) ≤ cp_lb lab (g (cp_tr hole ch i))
    by_cases h2 : (i - 1) / 2 = hole
    · rw [h2, cp_tr_l]
      by_cases h1 : i = ch
      · subst h1; rw [cp_tr_r]; omega
      · rw [cp_tr_o (by omega) h1]; exact hs' i i0 il h2
    · rw [cp_tr_o h2 ne]
      have a := h.1 i i0 il h2
      by_cases h1 : i = hole
      · subst h1
        rw [cp_tr_l]
        exact h.2 i0 ch h0 hl hpar
      · rw [cp_tr_o h1 (by omega)]; exact a
  · show cp_lb lab (g (cp_tr hole ch ((ch - 1) / 2))) ≤ cp_lb lab (g (cp_tr hole ch i))
    rw [hpar, cp_tr_l, cp_tr_o (by omega) (by omega)]
    have a := h.1 i i0 il (by omega)
    rw [e] at a; exact a
theorem cp_sw_u {hp : Nat → Int32} {i j : Nat} {x : Int32} (h : i ≠ j) : upd (upd hp i (hp j)) j x = cp_sw (upd hp i x) i j := by
  funext k
  show (if k = j then x else if k = i then hp j else hp k) = upd hp i x (cp_tr i j k)
  by_cases h1 : k = j
  · rw [if_pos h1, h1, cp_tr_r, pk_us]
  · rw [if_neg h1]
    by_cases h2 : k = i
    · rw [if_pos h2, h2, cp_tr_l, pk_un (fun e => h e.symm)]
    · rw [if_neg h2, cp_tr_o h2 h1, pk_un h2]
section
variable {f_cells f_functions f_limit f_status f_freeCount f_first f_size f_heapSize f_depth f_cur f_inserted f_overflowed : Int32} {a_bodySizes a_opAt a_aAt a_bAt a_baseValue a_settledValue a_outputValue a_changedMark a_cellHead a_cellTail a_kindOf a_subjectOf a_valueOf a_labelOf a_nextOf a_ownerOf a_leaveOf a_pcOf a_snapshot a_cellPrev a_cellNext a_sourceOf a_alive a_queued a_free a_nodeAt a_indexOf a_heap a_frameEnter a_framePc a_frameZone a_frameWait a_frameRegs : Nat → Int32}
theorem cp_push_loop {post : SX → Prop} {nd hs : Nat} (hnd : nd < 256) (h256 : hs < 256)
    (K : ∀ hp', cp_HB (hs + 1) hp' a_queued → cp_HO (hs + 1) hp' a_labelOf → post (f_cells, f_functions, f_limit, f_status, f_freeCount, f_first, f_size, f_heapSize, f_depth, f_cur, f_inserted, f_overflowed, a_bodySizes, a_opAt, a_aAt, a_bAt, a_baseValue, a_settledValue, a_outputValue, a_changedMark, a_cellHead, a_cellTail, a_kindOf, a_subjectOf, a_valueOf, a_labelOf, a_nextOf, a_ownerOf, a_leaveOf, a_pcOf, a_snapshot, a_cellPrev, a_cellNext, a_sourceOf, a_alive, a_queued, a_free, a_nodeAt, a_indexOf, hp', a_frameEnter, a_framePc, a_frameZone, a_frameWait, a_frameRegs)) :
    ∀ (m hole hops : Nat) (hp : Nat → Int32), hole < m → hole ≤ hs → hops + hole ≤ 255 → cp_HB (hs + 1) (upd hp hole (nI nd)) a_queued → cp_OU (hs + 1) hole (upd hp hole (nI nd)) a_labelOf →
      wX_pushHeap_38 post (nI nd) f_cells f_functions f_limit f_status f_freeCount f_first f_size f_heapSize f_depth f_cur f_inserted f_overflowed m (nI hole) 1 (nI hops) a_bodySizes a_opAt a_aAt a_bAt a_baseValue a_settledValue a_outputValue a_changedMark a_cellHead a_cellTail a_kindOf a_subjectOf a_valueOf a_labelOf a_nextOf a_ownerOf a_leaveOf a_pcOf a_snapshot a_cellPrev a_cellNext a_sourceOf a_alive a_queued a_free a_nodeAt a_indexOf hp a_frameEnter a_framePc a_frameZone a_frameWait a_frameRegs := by
  intro m
  induction m with
  | zero => intro hole hops hp h; omega
  | succ m ih =>
    intro hole hops hp hm hh ho hB hO
    have c1 : ¬ (256 : Int32) ≤ nI hops := nI_ge (b := 256) (by omega) (by decide)
    have ein : vp_in (nI hole) 256 := vp_in_nI (by omega) (by decide)
    have eh : (nI hole).toNatClampNeg = hole := nI_clamp (by omega)
    by_cases h0 : hole = 0
    · refine br_f c1 (br_t (by rw [h0]; decide) ⟨ein, nm_e ?_⟩)
      rw [eh]
      refine K _ hB (fun i i0 il => hO.1 i i0 il (by omega))
    · have hpos : 0 < hole := by omega
      have c2 : ¬ nI hole ≤ 0 := nI_nle hpos (by omega)
      have hpl : (hole - 1) / 2 < hole := by omega
      have edv : (nI hole - 1) / 2 = nI ((hole - 1) / 2) := by
        have e1 : nI hole - 1 = nI (hole - 1) := by
          have := nI_pred (hole - 1)
          rw [Nat.sub_add_cancel hpos] at this; exact this
        rw [e1]; exact pk_div (d := 2) (by omega) (by decide) (by decide)
      have epar : (nI ((hole - 1) / 2)).toNatClampNeg = (hole - 1) / 2 := nI_clamp (by omega)
      have gpar : upd hp hole (nI nd) ((hole - 1) / 2) = hp ((hole - 1) / 2) := pk_un (by omega)
      have ghole : upd hp hole (nI nd) hole = nI nd := pk_us
      obtain ⟨pn, hpn, epn, _⟩ := hB.1 ((hole - 1) / 2) (by omega)
      rw [gpar] at epn
      refine br_f c1 (br_f c2 (br_f (by decide) ⟨by decide, nm_r edv ⟨vp_in_nI (by omega) (by decide), ?_⟩⟩))
      rw [epar, eh]
      refine ⟨by rw [epn]; exact vp_in_nI hpn (by decide), vp_in_nI hnd (by decide), br_c (fun hle => ?_) (fun hle => ?_)⟩
      · refine nm_r (nI_1 _) ?_
        obtain ⟨m', rfl⟩ : ∃ m', m = m' + 1 := ⟨m - 1, by omega⟩
        have c1' : ¬ (256 : Int32) ≤ nI (hops + 1) := nI_ge (b := 256) (by omega) (by decide)
        refine br_f c1' (br_f c2 (br_t rfl ⟨ein, nm_e ?_⟩))
        rw [eh]
        refine K _ hB (fun i i0 il => ?_)
        by_cases e : i = hole
        · subst e
          rw [gpar, ghole]
          rw [Int32.le_iff_toInt_le] at hle; exact hle
        · exact hO.1 i i0 il e
      · have hlt : cp_lb a_labelOf (upd hp hole (nI nd) hole) < cp_lb a_labelOf (upd hp hole (nI nd) ((hole - 1) / 2)) := by
          rw [gpar, ghole]
          rw [Int32.le_iff_toInt_le] at hle; unfold cp_lb; omega
        have hne : hole ≠ (hole - 1) / 2 := by omega
        refine ⟨vp_in_nI (by omega) (by decide), ein, nm_e (nm_r (nI_1 _) ?_)⟩
        refine ih ((hole - 1) / 2) (hops + 1) _ (by omega) (by omega) (by omega) ?_ ?_
        · rw [cp_sw_u hne]; exact cp_HB_sw hB (by omega) (by omega)
        · rw [cp_sw_u hne]; exact cp_OU_sw hO hpos (by omega) hlt
theorem cp_nar1 : vp_nar .boolean 1 = 1 := rfl
theorem cp_nar0 : vp_nar .boolean 0 = 0 := rfl
theorem cp_pushHeap {post : SX → Prop} {nd hs : Nat} (hnd : nd < 256) (hsz : f_heapSize = nI hs) (hq : a_queued nd = 0) (hB : cp_HB hs a_heap a_queued) (hO : cp_HO hs a_heap a_labelOf)
    (K : ∀ hp', cp_HB (hs + 1) hp' (upd a_queued nd 1) → cp_HO (hs + 1) hp' a_labelOf → post (f_cells, f_functions, f_limit, f_status, f_freeCount, f_first, f_size, nI (hs + 1), f_depth, f_cur, f_inserted, f_overflowed, a_bodySizes, a_opAt, a_aAt, a_bAt, a_baseValue, a_settledValue, a_outputValue, a_changedMark, a_cellHead, a_cellTail, a_kindOf, a_subjectOf, a_valueOf, a_labelOf, a_nextOf, a_ownerOf, a_leaveOf, a_pcOf, a_snapshot, a_cellPrev, a_cellNext, a_sourceOf, a_alive, upd a_queued nd 1, a_free, a_nodeAt, a_indexOf, hp', a_frameEnter, a_framePc, a_frameZone, a_frameWait, a_frameRegs)) :
    wpX_pushHeap post (f_cells, f_functions, f_limit, f_status, f_freeCount, f_first, f_size, f_heapSize, f_depth, f_cur, f_inserted, f_overflowed, a_bodySizes, a_opAt, a_aAt, a_bAt, a_baseValue, a_settledValue, a_outputValue, a_changedMark, a_cellHead, a_cellTail, a_kindOf, a_subjectOf, a_valueOf, a_labelOf, a_nextOf, a_ownerOf, a_leaveOf, a_pcOf, a_snapshot, a_cellPrev, a_cellNext, a_sourceOf, a_alive, a_queued, a_free, a_nodeAt, a_indexOf, a_heap, a_frameEnter, a_framePc, a_frameZone, a_frameWait, a_frameRegs) (nI nd) := by
  have h256 := cp_HB_lt hB hnd hq
  subst hsz
  refine br_t (nI_lt (b := 256) h256 (by decide)) ⟨vp_in_nI hnd (by decide), ?_⟩
  rw [cp_nar1, nI_clamp (n := nd) (by omega)]
  refine nm_e (nm_r (nI_1 _) ⟨hs + 1, ?_⟩)
  refine cp_push_loop (hs := hs) hnd h256 K (hs + 1) hs 0 a_heap (by omega) (by omega) (by omega) ?_ ?_
  · refine ⟨fun i hi => ?_, fun i j hi hj e => ?_, fun n hn hqn => ?_⟩
    · by_cases h1 : i = hs
      · subst h1; exact ⟨nd, hnd, pk_us, by rw [pk_us]; decide⟩
      · obtain ⟨n, hn, e, hqn⟩ := hB.1 i (by omega)
        refine ⟨n, hn, by rw [pk_un h1]; exact e, ?_⟩
        by_cases h2 : n = nd
        · rw [h2, pk_us]; decide
        · rw [pk_un h2]; exact hqn
    · have key : ∀ i, i < hs → a_heap i ≠ nI nd := by
        intro i hi e
        obtain ⟨n, hn, e', hqn⟩ := hB.1 i hi
        rw [e'] at e
        have := (nI_eq (by omega) (by omega)).mp e
        rw [this] at hqn; exact hqn hq
      by_cases h1 : i = hs
      · by_cases h2 : j = hs
        · omega
        · subst h1
          rw [pk_us, pk_un h2] at e
          exact absurd e.symm (key j (by omega))
      · by_cases h2 : j = hs
        · subst h2
          rw [pk_us, pk_un h1] at e
          exact absurd e (key i (by omega))
        · rw [pk_un h1, pk_un h2] at e
          exact hB.2.1 i j (by omega) (by omega) e
    · by_cases h2 : n = nd
      · subst h2; exact ⟨hs, by omega, pk_us⟩
      · rw [pk_un h2] at hqn
        obtain ⟨i, hi, e⟩ := hB.2.2 n hn hqn
        exact ⟨i, by omega, by rw [pk_un (by omega)]; exact e⟩
  · refine ⟨fun i i0 il ne => ?_, fun p0 i i0 il e => ?_⟩
    · rw [pk_un (by omega), pk_un ne]
      exact hO i i0 (by omega)
    · omega
end
end
section
section
variable {f_cells f_functions f_limit f_status f_freeCount f_first f_size f_heapSize f_depth f_cur f_inserted f_overflowed : Int32} {a_bodySizes a_opAt a_aAt a_bAt a_baseValue a_settledValue a_outputValue a_changedMark a_cellHead a_cellTail a_kindOf a_subjectOf a_valueOf a_labelOf a_nextOf a_ownerOf a_leaveOf a_pcOf a_snapshot a_cellPrev a_cellNext a_sourceOf a_alive a_queued a_free a_nodeAt a_indexOf a_heap a_frameEnter a_framePc a_frameZone a_frameWait a_frameRegs : Nat → Int32}
theorem cp_pop_loop {post : SX → Prop} {ld hs : Nat} (hld : ld < 256) (h256 : hs ≤ 256) (hsz : f_heapSize = nI hs)
    (K : ∀ hp', cp_HB hs hp' a_queued → cp_HO hs hp' a_labelOf → post (f_cells, f_functions, f_limit, f_status, f_freeCount, f_first, f_size, f_heapSize, f_depth, f_cur, f_inserted, f_overflowed, a_bodySizes, a_opAt, a_aAt, a_bAt, a_baseValue, a_settledValue, a_outputValue, a_changedMark, a_cellHead, a_cellTail, a_kindOf, a_subjectOf, a_valueOf, a_labelOf, a_nextOf, a_ownerOf, a_leaveOf, a_pcOf, a_snapshot, a_cellPrev, a_cellNext, a_sourceOf, a_alive, a_queued, a_free, a_nodeAt, a_indexOf, hp', a_frameEnter, a_framePc, a_frameZone, a_frameWait, a_frameRegs)) :
    ∀ (m hole hops : Nat) (hp : Nat → Int32), hole < 256 → hole ≤ hs → hops ≤ hole → hs + 2 ≤ m + hole → cp_HB hs (upd hp hole (nI ld)) a_queued → cp_OD hs hole (upd hp hole (nI ld)) a_labelOf →
      wX_popHeap_50 post (nI ld) f_cells f_functions f_limit f_status f_freeCount f_first f_size f_heapSize f_depth f_cur f_inserted f_overflowed m (nI hole) (nI (2 * hole + 1)) 1 (nI hops) a_bodySizes a_opAt a_aAt a_bAt a_baseValue a_settledValue a_outputValue a_changedMark a_cellHead a_cellTail a_kindOf a_subjectOf a_valueOf a_labelOf a_nextOf a_ownerOf a_leaveOf a_pcOf a_snapshot a_cellPrev a_cellNext a_sourceOf a_alive a_queued a_free a_nodeAt a_indexOf hp a_frameEnter a_framePc a_frameZone a_frameWait a_frameRegs := by
  intro m
  induction m with
  | zero =>
    intro hole hops hp h1 h1' h2 h3 hB hO
    omega
  | succ m ih =>
    intro hole hops hp h1 h1' h2 h3 hB hO
    have c1 : ¬ (256 : Int32) ≤ nI hops := nI_ge (b := 256) (by omega) (by decide)
    have ein : vp_in (nI hole) 256 := vp_in_nI h1 (by decide)
    have eh : (nI hole).toNatClampNeg = hole := nI_clamp (by omega)
    by_cases hc : hs ≤ 2 * hole + 1
    · refine br_f c1 (br_t (by rw [hsz]; exact nI_le hc (by omega)) ⟨ein, nm_e ?_⟩)
      rw [eh]
      refine K _ hB (fun i i0 il => hO.1 i i0 il (by omega))
    · have c2 : ¬ f_heapSize ≤ nI (2 * hole + 1) := by rw [hsz]; exact nI_ge (by omega) (by omega)
      have step : ∀ ch, (ch - 1) / 2 = hole → 0 < ch → ch < hs → (∀ i, 0 < i → i < hs → (i - 1) / 2 = hole → cp_lb a_labelOf (upd hp hole (nI ld) ch) ≤ cp_lb a_labelOf (upd hp hole (nI ld) i)) →
          wX_popHeap_111 post (wX_popHeap_50 post (nI ld) f_cells f_functions f_limit f_status f_freeCount f_first f_size f_heapSize f_depth f_cur f_inserted f_overflowed m) (nI ld) (nI hole) (nI ch) 1 (nI hops) f_cells f_functions f_limit f_status f_freeCount f_first f_size f_heapSize f_depth f_cur f_inserted f_overflowed a_bodySizes a_opAt a_aAt a_bAt a_baseValue a_settledValue a_outputValue a_changedMark a_cellHead a_cellTail a_kindOf a_subjectOf a_valueOf a_labelOf a_nextOf a_ownerOf a_leaveOf a_pcOf a_snapshot a_cellPrev a_cellNext a_sourceOf a_alive a_queued a_free a_nodeAt a_indexOf hp a_frameEnter a_framePc a_frameZone a_frameWait a_frameRegs := by
        intro ch hpar h0 hl hmin
        have ech : (nI ch).toNatClampNeg = ch := nI_clamp (by omega)
        have hne : hole ≠ ch := by omega
        have gch : upd hp hole (nI ld) ch = hp ch := pk_un (fun e => hne e.symm)
        have ghole : upd hp hole (nI ld) hole = nI ld := pk_us
        obtain ⟨cn, hcn, ecn, _⟩ := hB.1 ch hl
        rw [gch] at ecn
        have inch : vp_in (nI ch) 256 := vp_in_nI (by omega) (by decide)
        unfold wX_popHeap_111
        rw [ech, eh]
        refine ⟨inch, by rw [ecn]; exact vp_in_nI hcn (by decide), vp_in_nI hld (by decide), br_c (fun hle => ?_) (fun hle => ?_)⟩
        · refine nm_r (nI_1 _) ?_
          obtain ⟨m', rfl⟩ : ∃ m', m = m' + 1 := ⟨m - 1, by omega⟩
          have c1' : ¬ (256 : Int32) ≤ nI (hops + 1) := nI_ge (b := 256) (by omega) (by decide)
          refine br_f c1' (br_f (by rw [hsz]; exact nI_ge (by omega) (by omega)) (br_t rfl ⟨ein, nm_e ?_⟩))
          rw [eh]
          refine K _ hB (fun i i0 il => ?_)
          by_cases e : (i - 1) / 2 = hole
          · have := hmin i i0 il e
            rw [Int32.le_iff_toInt_le] at hle
            rw [e, ghole]
            rw [gch] at this
            unfold cp_lb at this ⊢
            omega
          · exact hO.1 i i0 il e
        · have e2 : 2 * nI ch + 1 = nI (2 * ch + 1) := by
            rw [← nI_1, ← pk_mul]; rfl
          refine ⟨inch, ein, nm_e (nm_r e2 (nm_r (nI_1 _) ?_))⟩
          have hlt : cp_lb a_labelOf (upd hp hole (nI ld) ch) < cp_lb a_labelOf (upd hp hole (nI ld) hole) := by
            rw [gch, ghole]
            rw [Int32.le_iff_toInt_le] at hle; unfold cp_lb; omega
          refine ih ch (hops + 1) _ (by omega) (by omega) (by omega) (by omega) ?_ ?_
          · rw [cp_sw_u hne]; exact cp_HB_sw hB (by omega) hl
          · rw [cp_sw_u hne]; exact cp_OD_sw hO hpar h0 hl hlt hmin
      refine br_f c1 (br_f c2 (br_f (by decide) ?_))
      rw [nI_1]
      by_cases hc2 : hs ≤ 2 * hole + 1 + 1
      · refine br_t (by rw [hsz]; exact nI_le hc2 (by omega)) (step (2 * hole + 1) (by omega) (by omega) (by omega) (fun i i0 il e => ?_))
        have : i = 2 * hole + 1 := by omega
        rw [this]; exact Int.le_refl _
      · have ea : (nI (2 * hole + 1)).toNatClampNeg = 2 * hole + 1 := nI_clamp (by omega)
        have eb : (nI (2 * hole + 1 + 1)).toNatClampNeg = 2 * hole + 1 + 1 := nI_clamp (by omega)
        obtain ⟨an, han, ean, _⟩ := hB.1 (2 * hole + 1) (by omega)
        obtain ⟨bn, hbn, ebn, _⟩ := hB.1 (2 * hole + 1 + 1) (by omega)
        have ga : upd hp hole (nI ld) (2 * hole + 1) = hp (2 * hole + 1) := pk_un (by omega)
        have gb : upd hp hole (nI ld) (2 * hole + 1 + 1) = hp (2 * hole + 1 + 1) := pk_un (by omega)
        rw [ga] at ean
        rw [gb] at ebn
        refine br_f (by rw [hsz]; exact nI_ge (by omega) (by omega)) ?_
        rw [ea, eb]
        refine ⟨vp_in_nI (by omega) (by decide), by rw [ebn]; exact vp_in_nI hbn (by decide), vp_in_nI (by omega) (by decide), by rw [ean]; exact vp_in_nI han (by decide), br_c (fun hle => ?_) (fun hle => nm_e ?_)⟩
        · refine step (2 * hole + 1) (by omega) (by omega) (by omega) (fun i i0 il e => ?_)
          rw [Int32.le_iff_toInt_le] at hle
          have : i = 2 * hole + 1 ∨ i = 2 * hole + 1 + 1 := by omega
          rcases this with rfl | rfl
          · exact Int.le_refl _
          · rw [ga, gb]; exact hle
        · refine step (2 * hole + 1 + 1) (by omega) (by omega) (by omega) (fun i i0 il e => ?_)
          rw [Int32.le_iff_toInt_le] at hle
          have : i = 2 * hole + 1 ∨ i = 2 * hole + 1 + 1 := by omega
          rcases this with rfl | rfl
          · rw [ga, gb]; unfold cp_lb; omega
          · exact Int.le_refl _
theorem cp_HO_top {hs : Nat} {hp lab : Nat → Int32} (h : cp_HO hs hp lab) : ∀ i, i < hs → cp_lb lab (hp 0) ≤ cp_lb lab (hp i) := by
  intro i
  induction i using Nat.strongRecOn with
  | ind i ih =>
    intro hi
    by_cases h0 : i = 0
    · subst h0; exact Int.le_refl _
    · have a := ih ((i - 1) / 2) (by omega) (by omega)
      have b := h i (by omega) hi
      omega
theorem cp_popHeap {post : SX → Prop} {hs tp : Nat} (hsz : f_heapSize = nI (hs + 1)) (htp : tp < 256) (e0 : a_heap 0 = nI tp) (hB : cp_HB (hs + 1) a_heap a_queued) (hO : cp_HO (hs + 1) a_heap a_labelOf)
    (K : ∀ hp', cp_HB hs hp' (upd a_queued tp 0) → cp_HO hs hp' a_labelOf → post (f_cells, f_functions, f_limit, f_status, f_freeCount, f_first, f_size, nI hs, f_depth, f_cur, f_inserted, f_overflowed, a_bodySizes, a_opAt, a_aAt, a_bAt, a_baseValue, a_settledValue, a_outputValue, a_changedMark, a_cellHead, a_cellTail, a_kindOf, a_subjectOf, a_valueOf, a_labelOf, a_nextOf, a_ownerOf, a_leaveOf, a_pcOf, a_snapshot, a_cellPrev, a_cellNext, a_sourceOf, a_alive, upd a_queued tp 0, a_free, a_nodeAt, a_indexOf, hp', a_frameEnter, a_framePc, a_frameZone, a_frameWait, a_frameRegs)) :
    wpX_popHeap post (f_cells, f_functions, f_limit, f_status, f_freeCount, f_first, f_size, f_heapSize, f_depth, f_cur, f_inserted, f_overflowed, a_bodySizes, a_opAt, a_aAt, a_bAt, a_baseValue, a_settledValue, a_outputValue, a_changedMark, a_cellHead, a_cellTail, a_kindOf, a_subjectOf, a_valueOf, a_labelOf, a_nextOf, a_ownerOf, a_leaveOf, a_pcOf, a_snapshot, a_cellPrev, a_cellNext, a_sourceOf, a_alive, a_queued, a_free, a_nodeAt, a_indexOf, a_heap, a_frameEnter, a_framePc, a_frameZone, a_frameWait, a_frameRegs) := by
  have h256 := cp_HB_le hB
  subst hsz
  obtain ⟨ld, hld, eld, hqld⟩ := hB.1 hs (by omega)
  refine br_t (nI_lt (a := 0) (by omega) (by omega)) ⟨by rw [e0]; exact vp_in_nI htp (by decide), ?_⟩
  rw [cp_nar0, e0, nI_clamp (n := tp) (by omega)]
  refine nm_e (nm_r (nI_pred hs) ⟨vp_in_nI (by omega) (by decide), ?_⟩)
  rw [nI_clamp (n := hs) (by omega)]
  refine nm_r eld ⟨hs + 2, ?_⟩
  refine cp_pop_loop hld (by omega) rfl K (hs + 2) 0 0 a_heap (by omega) (by omega) (by omega) (by omega) ?_ ?_
  · refine ⟨fun i hi => ?_, fun i j hi hj e => ?_, fun n hn hqn => ?_⟩
    · by_cases h1 : i = 0
      · subst h1
        refine ⟨ld, hld, pk_us, ?_⟩
        rw [pk_un]
        · exact hqld
        · intro e
          have := hB.2.1 0 hs (by omega) (by omega) (by rw [e0, eld, e])
          omega
      · obtain ⟨n, hn, e, hqn⟩ := hB.1 i (by omega)
        refine ⟨n, hn, by rw [pk_un h1]; exact e, ?_⟩
        rw [pk_un]
        · exact hqn
        · intro e2
          have := hB.2.1 0 i (by omega) (by omega) (by rw [e0, e, e2])
          omega
    · have key : ∀ i, i < hs → i ≠ 0 → a_heap i ≠ nI ld := by
        intro i hi _ e
        have := hB.2.1 i hs (by omega) (by omega) (by rw [e, eld])
        omega
      by_cases h1 : i = 0
      · by_cases h2 : j = 0
        · omega
        · subst h1
          rw [pk_us, pk_un h2] at e
          exact absurd e.symm (key j hj h2)
      · by_cases h2 : j = 0
        · subst h2
          rw [pk_us, pk_un h1] at e
          exact absurd e (key i hi h1)
        · rw [pk_un h1, pk_un h2] at e
          exact hB.2.1 i j (by omega) (by omega) e
    · by_cases h2 : n = tp
      · subst h2; rw [pk_us] at hqn; exact absurd rfl hqn
      · rw [pk_un h2] at hqn
        obtain ⟨i, hi, e⟩ := hB.2.2 n hn hqn
        by_cases h3 : i = hs
        · subst h3
          have hpos : 0 < i := by
            rcases Nat.eq_zero_or_pos i with h4 | h4
            · subst h4
              rw [e0] at e
              exact absurd ((nI_eq (by omega) (by omega)).mp e).symm h2
            · exact h4
          exact ⟨0, hpos, by rw [pk_us, ← eld, e]⟩
        · have h4 : i ≠ 0 := by
            intro h4
            subst h4
            rw [e0] at e
            exact absurd ((nI_eq (by omega) (by omega)).mp e).symm h2
          exact ⟨i, by omega, by rw [pk_un h4]; exact e⟩
  · refine ⟨fun i i0 il ne => ?_, fun p0 => by omega⟩
    rw [pk_un (by omega), pk_un (by omega)]
    exact hO i i0 (by omega)
end
end
section
/-! ===== governing, queueIfStale, adoptFollowers ===== -/
/-- the arrays show the node -/
def cp_R0 (kd sb vl : Nat → Int32) (g : cp_N) : Prop :=
  cp_id g < 256 ∧ kd (cp_id g) = cp_k g ∧ sb (cp_id g) = nI (cp_s g) ∧ vl (cp_id g) = cp_v g ∧ (cp_k g = 1 ∨ cp_k g = 2 → cp_s g < 16)
/-- a link: none or a node -/
def cp_ok (w : Int32) : Prop := w = -1 ∨ ∃ n, n < 256 ∧ w = nI n
def cp_H (sz : Int32) (hp qd lab : Nat → Int32) : Prop := ∃ hs, sz = nI hs ∧ cp_HB hs hp qd ∧ cp_HO hs hp lab
theorem cp_ok_hx : ∀ (l : List cp_N), (∀ g ∈ l, cp_id g < 256) → cp_ok (cp_hx l (-1))
  | [], _ => Or.inl rfl
  | g :: _, h => Or.inr ⟨cp_id g, h g List.mem_cons_self, rfl⟩
theorem cp_ok_lt : ∀ (l : List cp_N) (d : Int32), cp_ok d → (∀ g ∈ l, cp_id g < 256) → cp_ok (cp_lt d l)
  | [], _, hd, _ => hd
  | g :: t, _, _, h => cp_ok_lt t _ (Or.inr ⟨cp_id g, h g List.mem_cons_self, rfl⟩) (fun x hx => h x (List.mem_cons_of_mem _ hx))
theorem cp_ok_lw : ∀ (l : List cp_N) (d : Int32), cp_ok d → (∀ g ∈ l, cp_id g < 256) → cp_ok (cp_lw d l)
  | [], _, hd, _ => hd
  | g :: t, d, hd, h => by
    refine cp_ok_lw t _ ?_ (fun x hx => h x (List.mem_cons_of_mem _ hx))
    split
    · exact Or.inr ⟨cp_id g, h g List.mem_cons_self, rfl⟩
    · exact hd
theorem cp_m1neg : (-1 : Int32) < 0 := by decide
section
variable {f_cells f_functions f_limit f_status f_freeCount f_first f_size f_heapSize f_depth f_cur f_inserted f_overflowed : Int32} {a_bodySizes a_opAt a_aAt a_bAt a_baseValue a_settledValue a_outputValue a_changedMark a_cellHead a_cellTail a_kindOf a_subjectOf a_valueOf a_labelOf a_nextOf a_ownerOf a_leaveOf a_pcOf a_snapshot a_cellPrev a_cellNext a_sourceOf a_alive a_queued a_free a_nodeAt a_indexOf a_heap a_frameEnter a_framePc a_frameZone a_frameWait a_frameRegs : Nat → Int32}
theorem cp_governing {post : Int32 → Prop} {n c : Nat} (hn : n < 256) (hok : cp_ok (a_sourceOf n)) (hs : 0 ≤ a_sourceOf n ∨ (a_subjectOf n = nI c ∧ c < 16)) (K : post (cp_gv a_valueOf (a_sourceOf n) (a_baseValue c))) :
    wpX_governing post (f_cells, f_functions, f_limit, f_status, f_freeCount, f_first, f_size, f_heapSize, f_depth, f_cur, f_inserted, f_overflowed, a_bodySizes, a_opAt, a_aAt, a_bAt, a_baseValue, a_settledValue, a_outputValue, a_changedMark, a_cellHead, a_cellTail, a_kindOf, a_subjectOf, a_valueOf, a_labelOf, a_nextOf, a_ownerOf, a_leaveOf, a_pcOf, a_snapshot, a_cellPrev, a_cellNext, a_sourceOf, a_alive, a_queued, a_free, a_nodeAt, a_indexOf, a_heap, a_frameEnter, a_framePc, a_frameZone, a_frameWait, a_frameRegs) (nI n) := by
  have en : (nI n).toNatClampNeg = n := nI_clamp (by omega)
  have ein : vp_in (nI n) 256 := vp_in_nI hn (by decide)
  refine And.intro ein ?_
  rw [en]
  refine nm_e ?_
  rcases hok with h | ⟨w, hw, h⟩
  · have h0 : ¬ (0 : Int32) ≤ a_sourceOf n := by rw [h]; decide
    have hs' := hs.resolve_left h0
    refine br_f h0 ⟨ein, ?_⟩
    rw [hs'.1, nI_clamp (n := c) (by omega)]
    refine ⟨vp_in_nI hs'.2 (by decide), ?_⟩
    unfold cp_gv at K
    rw [if_neg h0] at K; exact K
  · have h0 : (0 : Int32) ≤ a_sourceOf n := by rw [h]; exact nI_pos' (by omega)
    refine br_t h0 ⟨by rw [h]; exact vp_in_nI hw (by decide), ?_⟩
    unfold cp_gv at K
    rw [if_pos h0] at K; exact K
theorem cp_queueIfStale {post : SX → Prop} {nd c : Nat} (hnd : nd < 256) (hok : cp_ok (a_sourceOf nd)) (hsb : a_subjectOf nd = nI c) (hc : c < 16) (hH : cp_H f_heapSize a_heap a_queued a_labelOf)
    (K : ∀ sz' hp' qd', cp_H sz' hp' qd' a_labelOf → (∀ m, a_queued m ≠ 0 → qd' m ≠ 0) → (a_valueOf nd ≠ cp_gv a_valueOf (a_sourceOf nd) (a_baseValue c) → qd' nd ≠ 0) → (∀ m, qd' m ≠ 0 → a_queued m ≠ 0 ∨ m = nd) →
      post (f_cells, f_functions, f_limit, f_status, f_freeCount, f_first, f_size, sz', f_depth, f_cur, f_inserted, f_overflowed, a_bodySizes, a_opAt, a_aAt, a_bAt, a_baseValue, a_settledValue, a_outputValue, a_changedMark, a_cellHead, a_cellTail, a_kindOf, a_subjectOf, a_valueOf, a_labelOf, a_nextOf, a_ownerOf, a_leaveOf, a_pcOf, a_snapshot, a_cellPrev, a_cellNext, a_sourceOf, a_alive, qd', a_free, a_nodeAt, a_indexOf, hp', a_frameEnter, a_framePc, a_frameZone, a_frameWait, a_frameRegs)) : wpX_queueIfStale post (f_cells, f_functions, f_limit, f_status, f_freeCount, f_first, f_size, f_heapSize, f_depth, f_cur, f_inserted, f_overflowed, a_bodySizes, a_opAt, a_aAt, a_bAt, a_baseValue, a_settledValue, a_outputValue, a_changedMark, a_cellHead, a_cellTail, a_kindOf, a_subjectOf, a_valueOf, a_labelOf, a_nextOf, a_ownerOf, a_leaveOf, a_pcOf, a_snapshot, a_cellPrev, a_cellNext, a_sourceOf, a_alive, a_queued, a_free, a_nodeAt, a_indexOf, a_heap, a_frameEnter, a_framePc, a_frameZone, a_frameWait, a_frameRegs) (nI nd) := by
  have en : (nI nd).toNatClampNeg = nd := nI_clamp (by omega)
  have ein : vp_in (nI nd) 256 := vp_in_nI hnd (by decide)
  unfold wpX_queueIfStale
  refine cp_governing (c := c) hnd hok (Or.inr ⟨hsb, hc⟩) ?_
  refine And.intro ein ?_
  rw [en]
  refine br_c (fun hq => ⟨ein, br_c (fun hv => ?_) (fun hv => ?_)⟩) (fun hq => ?_)
  · exact K _ _ _ hH (fun m h => h) (fun h => absurd hv h) (fun m h => Or.inl h)
  · obtain ⟨hs, e, hB, hO⟩ := hH
    refine cp_pushHeap hnd e hq hB hO (fun hp' hB' hO' => ?_)
    refine K _ _ _ ⟨hs + 1, rfl, hB', hO'⟩ (fun m h => ?_) (fun _ => by rw [pk_us]; decide) (fun m h => ?_)
    · by_cases e2 : m = nd
      · rw [e2, pk_us]; decide
      · rw [pk_un e2]; exact h
    · by_cases e2 : m = nd
      · exact Or.inr e2
      · rw [pk_un e2] at h; exact Or.inl h
  · exact K _ _ _ hH (fun m h => h) (fun _ => hq) (fun m h => Or.inl h)
theorem cp_adopt_loop {post : SX → Prop} {c : Nat} {w : Int32} (hw : cp_ok w) (hc : c < 16) :
    ∀ (l : List cp_N) (m hops : Nat) (src : Nat → Int32) (sz : Int32) (hp qd : Nat → Int32) (w0 s0 pr : Int32), l.length < m → l.length + hops ≤ 255 →
      (∀ g ∈ l, cp_R0 a_kindOf a_subjectOf a_valueOf g ∧ (cp_k g = 1 ∨ cp_k g = 2) ∧ cp_s g = c) → cp_U l → cp_G a_cellPrev a_cellNext pr l (-1) → cp_So src w0 l → cp_SQ qd s0 l → cp_H sz hp qd a_labelOf →
      (∀ src' sz' hp' qd', cp_So src' w l → cp_SQ qd' (cp_gv a_valueOf w (a_baseValue c)) l → cp_H sz' hp' qd' a_labelOf → (∀ n, qd n ≠ 0 → qd' n ≠ 0) → (∀ n, qd' n ≠ 0 → qd n ≠ 0 ∨ ∃ g ∈ l, cp_id g = n ∧ cp_k g = 1) →
        (∀ n, (∀ g ∈ l, cp_id g ≠ n) → src' n = src n) → post (f_cells, f_functions, f_limit, f_status, f_freeCount, f_first, f_size, sz', f_depth, f_cur, f_inserted, f_overflowed, a_bodySizes, a_opAt, a_aAt, a_bAt, a_baseValue, a_settledValue, a_outputValue, a_changedMark, a_cellHead, a_cellTail, a_kindOf, a_subjectOf, a_valueOf, a_labelOf, a_nextOf, a_ownerOf, a_leaveOf, a_pcOf, a_snapshot, a_cellPrev, a_cellNext, src', a_alive, qd', a_free, a_nodeAt, a_indexOf, hp', a_frameEnter, a_framePc, a_frameZone, a_frameWait, a_frameRegs)) →
      wX_adoptFollowers_5 post w m (cp_hx l (-1)) (nI hops) f_cells f_functions f_limit f_status f_freeCount f_first f_size sz f_depth f_cur f_inserted f_overflowed a_bodySizes a_opAt a_aAt a_bAt a_baseValue a_settledValue a_outputValue a_changedMark a_cellHead a_cellTail a_kindOf a_subjectOf a_valueOf a_labelOf a_nextOf a_ownerOf a_leaveOf a_pcOf a_snapshot a_cellPrev a_cellNext src a_alive qd a_free a_nodeAt a_indexOf hp a_frameEnter a_framePc a_frameZone a_frameWait a_frameRegs := by
  intro l
  induction l with
  | nil =>
    intro m hops src sz hp qd w0 s0 pr hm hh hR hU hG hS hQ hH K
    obtain ⟨m, rfl⟩ : ∃ m', m = m' + 1 := ⟨m - 1, by have : ([] : List cp_N).length = 0 := rfl; omega⟩
    have hh' : hops ≤ 255 := by have : ([] : List cp_N).length = 0 := rfl; omega
    refine br_f (nI_ge (b := 256) (by omega) (by decide)) (br_t cp_m1neg ?_)
    exact K _ _ _ _ trivial trivial hH (fun _ h => h) (fun _ h => Or.inl h) (fun _ _ => rfl)
  | cons g t ih =>
    intro m hops src sz hp qd w0 s0 pr hm hh hR hU hG hS hQ hH K
    have hlen : (g :: t).length = t.length + 1 := rfl
    obtain ⟨m, rfl⟩ : ∃ m', m = m' + 1 := ⟨m - 1, by omega⟩
    obtain ⟨⟨hid, hk, hsb, hvl, hs16⟩, hacc, hsc⟩ := hR g List.mem_cons_self
    have hU' := cp_U_cons.mp hU
    have en : (nI (cp_id g)).toNatClampNeg = cp_id g := nI_clamp (by omega)
    have ein : vp_in (nI (cp_id g)) 256 := vp_in_nI hid (by decide)
    have c1 : ¬ (256 : Int32) ≤ nI hops := nI_ge (b := 256) (by omega) (by decide)
    rw [show cp_hx (g :: t) (-1) = nI (cp_id g) from rfl]
    refine br_f c1 (br_f (nI_pos (by omega)) (And.intro ein ?_))
    rw [en]
    refine nm_e (And.intro ein ?_)
    rw [hk]
    rcases hacc with h1 | h2
    · have hn2 : ¬ cp_k g = 2 := by rw [h1]; decide
      refine br_f hn2 ?_
      refine cp_queueIfStale (c := c) hid (by rw [pk_us]; exact hw) (by rw [hsb, hsc]) hc hH ?_
      intro sz1 hp1 qd1 hH1 q1 q2 q3
      rw [pk_us] at q2
      refine And.intro ein ?_
      refine nm_r hG.2.1 (nm_r (nI_1 _) ?_)
      have hS' := hS.2
      rw [if_neg hn2] at hS'
      have hQ' := hQ.2
      rw [if_neg hn2] at hQ'
      refine ih m (hops + 1) (upd src (cp_id g) w) sz1 hp1 qd1 w0 s0 _ (by omega) (by omega) (fun x hx => hR x (List.mem_cons_of_mem _ hx)) hU'.2 hG.2.2 ?_ ?_ hH1 ?_
      · exact cp_So_fr _ _ (fun x hx => pk_un (fun e => hU'.1 x hx e.symm)) hS'
      · exact cp_SQ_mono _ _ (fun x _ hx => q1 _ hx) hQ'
      · intro src' sz' hp' qd' k1 k2 k3 k4 k5 k6
        refine K src' sz' hp' qd' ⟨?_, ?_⟩ ⟨fun _ hv => ?_, ?_⟩ k3 (fun n h => k4 n (q1 n h)) (fun n h => ?_) (fun n h => ?_)
        · rw [k6 _ (fun x hx e => hU'.1 x hx e.symm), pk_us]
        · rw [if_neg hn2]; exact k1
        · exact k4 _ (q2 (by rw [hvl]; exact hv))
        · rw [if_neg hn2]; exact k2
        · rcases k5 n h with h | ⟨x, hx, e⟩
          · rcases q3 n h with h | h
            · exact Or.inl h
            · exact Or.inr ⟨g, List.mem_cons_self, h.symm, h1⟩
          · exact Or.inr ⟨x, List.mem_cons_of_mem _ hx, e⟩
        · rw [k6 n (fun x hx => h x (List.mem_cons_of_mem _ hx)), pk_un (fun e => h g List.mem_cons_self e.symm)]
    · refine br_t h2 (nm_r (nI_1 _) ?_)
      obtain ⟨m, rfl⟩ : ∃ m', m = m' + 1 := ⟨m - 1, by omega⟩
      refine br_f (nI_ge (b := 256) (by omega) (by decide)) (br_t cp_m1neg ?_)
      have hS' := hS.2
      have hQ' := hQ.2
      refine K _ _ _ _ ⟨pk_us, ?_⟩ ⟨fun h1 => by rw [h1] at h2; exact absurd h2 (by decide), ?_⟩ hH (fun _ h => h) (fun _ h => Or.inl h) (fun n h => pk_un (fun e => h g List.mem_cons_self e.symm))
      · rw [if_pos h2] at hS' ⊢
        exact cp_So_fr _ _ (fun x hx => pk_un (fun e => hU'.1 x hx e.symm)) hS'
      · rw [if_pos h2] at hQ' ⊢
        exact hQ'
theorem cp_adopt {post : SX → Prop} {c : Nat} {w : Int32} {l : List cp_N} {w0 s0 pr : Int32} (hw : cp_ok w) (hc : c < 16) (hl : l.length ≤ 255)
    (hR : ∀ g ∈ l, cp_R0 a_kindOf a_subjectOf a_valueOf g ∧ (cp_k g = 1 ∨ cp_k g = 2) ∧ cp_s g = c) (hU : cp_U l) (hG : cp_G a_cellPrev a_cellNext pr l (-1)) (hS : cp_So a_sourceOf w0 l) (hQ : cp_SQ a_queued s0 l) (hH : cp_H f_heapSize a_heap a_queued a_labelOf)
    (K : ∀ src' sz' hp' qd', cp_So src' w l → cp_SQ qd' (cp_gv a_valueOf w (a_baseValue c)) l → cp_H sz' hp' qd' a_labelOf → (∀ n, a_queued n ≠ 0 → qd' n ≠ 0) → (∀ n, qd' n ≠ 0 → a_queued n ≠ 0 ∨ ∃ g ∈ l, cp_id g = n ∧ cp_k g = 1) →
        (∀ n, (∀ g ∈ l, cp_id g ≠ n) → src' n = a_sourceOf n) → post (f_cells, f_functions, f_limit, f_status, f_freeCount, f_first, f_size, sz', f_depth, f_cur, f_inserted, f_overflowed, a_bodySizes, a_opAt, a_aAt, a_bAt, a_baseValue, a_settledValue, a_outputValue, a_changedMark, a_cellHead, a_cellTail, a_kindOf, a_subjectOf, a_valueOf, a_labelOf, a_nextOf, a_ownerOf, a_leaveOf, a_pcOf, a_snapshot, a_cellPrev, a_cellNext, src', a_alive, qd', a_free, a_nodeAt, a_indexOf, hp', a_frameEnter, a_framePc, a_frameZone, a_frameWait, a_frameRegs)) :
    wpX_adoptFollowers post (f_cells, f_functions, f_limit, f_status, f_freeCount, f_first, f_size, f_heapSize, f_depth, f_cur, f_inserted, f_overflowed, a_bodySizes, a_opAt, a_aAt, a_bAt, a_baseValue, a_settledValue, a_outputValue, a_changedMark, a_cellHead, a_cellTail, a_kindOf, a_subjectOf, a_valueOf, a_labelOf, a_nextOf, a_ownerOf, a_leaveOf, a_pcOf, a_snapshot, a_cellPrev, a_cellNext, a_sourceOf, a_alive, a_queued, a_free, a_nodeAt, a_indexOf, a_heap, a_frameEnter, a_framePc, a_frameZone, a_frameWait, a_frameRegs) (cp_hx l (-1)) w :=
  ⟨l.length + 1, cp_adopt_loop hw hc l (l.length + 1) 0 a_sourceOf f_heapSize a_heap a_queued w0 s0 pr (by omega) (by omega) hR hU hG hS hQ hH K⟩
end
end
section
/-! ===== unlinkAccess, linkAccess ===== -/
theorem cp_lw_snoc (d : Int32) (a : List cp_N) (g : cp_N) : cp_lw d (a ++ [g]) = if cp_k g = 2 then nI (cp_id g) else cp_lw d a := by
  rw [cp_lw_app]; rfl
/-- joins two borders -/
theorem cp_G_join {pv nx : Nat → Int32} {p q : List cp_N} (h1 : cp_G pv nx (-1) p (cp_hx q (-1))) (h2 : cp_G pv nx (cp_lt (-1) p) q (-1)) : cp_G pv nx (-1) (p ++ q) (-1) := (cp_G_app _ _ _ _).mpr ⟨h1, h2⟩
section
variable {f_cells f_functions f_limit f_status f_freeCount f_first f_size f_heapSize f_depth f_cur f_inserted f_overflowed : Int32} {a_bodySizes a_opAt a_aAt a_bAt a_baseValue a_settledValue a_outputValue a_changedMark a_cellHead a_cellTail a_kindOf a_subjectOf a_valueOf a_labelOf a_nextOf a_ownerOf a_leaveOf a_pcOf a_snapshot a_cellPrev a_cellNext a_sourceOf a_alive a_queued a_free a_nodeAt a_indexOf a_heap a_frameEnter a_framePc a_frameZone a_frameWait a_frameRegs : Nat → Int32}
theorem cp_unlink_68 {post : SX → Prop} {c : Nat} {p q : List cp_N} {g : cp_N} (hc : c < 16) (hl : q.length ≤ 255) (hg : cp_R0 a_kindOf a_subjectOf a_valueOf g)
    (hRp : ∀ x ∈ p, cp_R0 a_kindOf a_subjectOf a_valueOf x) (hRq : ∀ x ∈ q, cp_R0 a_kindOf a_subjectOf a_valueOf x ∧ (cp_k x = 1 ∨ cp_k x = 2) ∧ cp_s x = c) (hU : cp_U (p ++ q)) (hG : cp_G a_cellPrev a_cellNext (-1) (p ++ q) (-1))
    (hS : cp_So a_sourceOf (-1) (p ++ g :: q)) (hQ : cp_SQ a_queued (a_baseValue c) (p ++ g :: q)) (hH : cp_H f_heapSize a_heap a_queued a_labelOf)
    (K : ∀ src' sz' hp' qd', cp_So src' (-1) (p ++ q) → cp_SQ qd' (a_baseValue c) (p ++ q) → cp_H sz' hp' qd' a_labelOf → (∀ n, a_queued n ≠ 0 → qd' n ≠ 0) → (∀ n, qd' n ≠ 0 → a_queued n ≠ 0 ∨ ∃ x ∈ q, cp_id x = n ∧ cp_k x = 1) →
        (∀ n, (∀ x ∈ q, cp_id x ≠ n) → src' n = a_sourceOf n) → post (f_cells, f_functions, f_limit, f_status, f_freeCount, f_first, f_size, sz', f_depth, f_cur, f_inserted, f_overflowed, a_bodySizes, a_opAt, a_aAt, a_bAt, a_baseValue, a_settledValue, a_outputValue, a_changedMark, a_cellHead, a_cellTail, a_kindOf, a_subjectOf, a_valueOf, a_labelOf, a_nextOf, a_ownerOf, a_leaveOf, a_pcOf, a_snapshot, a_cellPrev, a_cellNext, src', a_alive, qd', a_free, a_nodeAt, a_indexOf, hp', a_frameEnter, a_framePc, a_frameZone, a_frameWait, a_frameRegs)) :
    wX_unlinkAccess_68 post (nI (cp_id g)) (cp_hx q (-1)) f_cells f_functions f_limit f_status f_freeCount f_first f_size f_heapSize f_depth f_cur f_inserted f_overflowed a_bodySizes a_opAt a_aAt a_bAt a_baseValue a_settledValue a_outputValue a_changedMark a_cellHead a_cellTail a_kindOf a_subjectOf a_valueOf a_labelOf a_nextOf a_ownerOf a_leaveOf a_pcOf a_snapshot a_cellPrev a_cellNext a_sourceOf a_alive a_queued a_free a_nodeAt a_indexOf a_heap a_frameEnter a_framePc a_frameZone a_frameWait a_frameRegs := by
  obtain ⟨hid, hk, hsb, hvl, _⟩ := hg
  have en : (nI (cp_id g)).toNatClampNeg = cp_id g := nI_clamp (by omega)
  have ein : vp_in (nI (cp_id g)) 256 := vp_in_nI hid (by decide)
  obtain ⟨hS1, hS2, hS3⟩ := (cp_So_app _ _ _).mp hS
  obtain ⟨hQ1, _, hQ3⟩ := (cp_SQ_app _ _ _).mp hQ
  unfold wX_unlinkAccess_68
  rw [en, hk]
  refine ⟨ein, br_c (fun h2 => ⟨ein, ?_⟩) (fun h2 => ?_)⟩
  · rw [hS2]
    have hU' := cp_U_app.mp hU
    refine cp_adopt (c := c) (cp_ok_lw _ _ (Or.inl rfl) (fun x hx => (hRp x hx).1)) hc hl hRq hU'.2.1 ((cp_G_app _ _ _ _).mp hG).2 hS3 hQ3 hH ?_
    intro src' sz' hp' qd' k1 k2 k3 k4 k5 k6
    refine K src' sz' hp' qd' ((cp_So_app _ _ _).mpr ⟨?_, k1⟩) ((cp_SQ_app _ _ _).mpr ⟨?_, ?_⟩) k3 k4 k5 k6
    · exact cp_So_fr _ _ (fun x hx => k6 _ (fun y hy e => hU'.2.2 x hx y hy e.symm)) hS1
    · exact cp_SQ_mono _ _ (fun x _ h => k4 _ h) hQ1
    · rw [cp_gv_cv (fun x hx => ⟨(hRp x hx).1, (hRp x hx).2.2.2.1⟩)] at k2
      exact k2
  · rw [if_neg h2] at hS3 hQ3
    exact K _ _ _ _ ((cp_So_app _ _ _).mpr ⟨hS1, hS3⟩) ((cp_SQ_app _ _ _).mpr ⟨hQ1, hQ3⟩) hH (fun _ h => h) (fun _ h => Or.inl h) (fun _ _ => rfl)
theorem cp_unlink {post : SX → Prop} {c : Nat} {p q : List cp_N} {g : cp_N} (hc : c < 16) (hl : q.length ≤ 255) (hR : ∀ x ∈ p ++ g :: q, cp_R0 a_kindOf a_subjectOf a_valueOf x ∧ (cp_k x = 1 ∨ cp_k x = 2) ∧ cp_s x = c)
    (hU : cp_U (p ++ g :: q)) (hD : cp_D (a_cellHead c) (a_cellTail c) a_cellPrev a_cellNext (p ++ g :: q)) (hS : cp_So a_sourceOf (-1) (p ++ g :: q)) (hQ : cp_SQ a_queued (a_baseValue c) (p ++ g :: q)) (hH : cp_H f_heapSize a_heap a_queued a_labelOf)
    (K : ∀ hd' tl' pv' nx' src' sz' hp' qd', cp_D (hd' c) (tl' c) pv' nx' (p ++ q) → cp_So src' (-1) (p ++ q) → cp_SQ qd' (a_baseValue c) (p ++ q) → cp_H sz' hp' qd' a_labelOf → (∀ n, a_queued n ≠ 0 → qd' n ≠ 0) → (∀ n, qd' n ≠ 0 → a_queued n ≠ 0 ∨ ∃ x ∈ q, cp_id x = n ∧ cp_k x = 1) →
        (∀ n, (∀ x ∈ p ++ q, cp_id x ≠ n) → src' n = a_sourceOf n ∧ pv' n = a_cellPrev n ∧ nx' n = a_cellNext n) → (∀ c', c' ≠ c → hd' c' = a_cellHead c' ∧ tl' c' = a_cellTail c') →
        post (f_cells, f_functions, f_limit, f_status, f_freeCount, f_first, f_size, sz', f_depth, f_cur, f_inserted, f_overflowed, a_bodySizes, a_opAt, a_aAt, a_bAt, a_baseValue, a_settledValue, a_outputValue, a_changedMark, hd', tl', a_kindOf, a_subjectOf, a_valueOf, a_labelOf, a_nextOf, a_ownerOf, a_leaveOf, a_pcOf, a_snapshot, pv', nx', src', a_alive, qd', a_free, a_nodeAt, a_indexOf, hp', a_frameEnter, a_framePc, a_frameZone, a_frameWait, a_frameRegs)) :
    wpX_unlinkAccess post (f_cells, f_functions, f_limit, f_status, f_freeCount, f_first, f_size, f_heapSize, f_depth, f_cur, f_inserted, f_overflowed, a_bodySizes, a_opAt, a_aAt, a_bAt, a_baseValue, a_settledValue, a_outputValue, a_changedMark, a_cellHead, a_cellTail, a_kindOf, a_subjectOf, a_valueOf, a_labelOf, a_nextOf, a_ownerOf, a_leaveOf, a_pcOf, a_snapshot, a_cellPrev, a_cellNext, a_sourceOf, a_alive, a_queued, a_free, a_nodeAt, a_indexOf, a_heap, a_frameEnter, a_framePc, a_frameZone, a_frameWait, a_frameRegs) (nI (cp_id g)) := by
  have hmg : g ∈ p ++ g :: q := List.mem_append.mpr (Or.inr List.mem_cons_self)
  obtain ⟨⟨hid, hk, hsb, hvl, hs16⟩, hacc, hsc⟩ := hR g hmg
  have en : (nI (cp_id g)).toNatClampNeg = cp_id g := nI_clamp (by omega)
  have ein : vp_in (nI (cp_id g)) 256 := vp_in_nI hid (by decide)
  have ec : (nI c).toNatClampNeg = c := nI_clamp (by omega)
  have inc : vp_in (nI c) 16 := vp_in_nI hc (by decide)
  obtain ⟨hD1, hD2, hD3⟩ := hD
  obtain ⟨hG1, hG2, hG3, hG4⟩ := (cp_G_app _ _ _ _).mp hD3
  obtain ⟨hU1, hU2, hU3⟩ := cp_U_app.mp hU
  obtain ⟨hU4, hU5⟩ := cp_U_cons.mp hU2
  have hUpq : cp_U (p ++ q) := cp_U_app.mpr ⟨hU1, hU5, fun x hx y hy => hU3 x hx y (List.mem_cons_of_mem _ hy)⟩
  have hRp : ∀ x ∈ p, cp_R0 a_kindOf a_subjectOf a_valueOf x := fun x hx => (hR x (List.mem_append.mpr (Or.inl hx))).1
  have hRq : ∀ x ∈ q, cp_R0 a_kindOf a_subjectOf a_valueOf x ∧ (cp_k x = 1 ∨ cp_k x = 2) ∧ cp_s x = c := fun x hx => hR x (List.mem_append.mpr (Or.inr (List.mem_cons_of_mem _ hx)))
  have hRg : cp_R0 a_kindOf a_subjectOf a_valueOf g := (hR g hmg).1
  refine And.intro ein ?_
  rw [en]
  refine nm_r (e' := nI c) (by rw [hsb, hsc]) ⟨ein, nm_r hG2 ⟨ein, nm_r hG3 ?_⟩⟩
  rw [ec]
  rcases cp_nc p with rfl | ⟨p', b, rfl⟩
  · -- no one before
    refine br_t cp_m1neg ⟨inc, nm_e ?_⟩
    cases q with
    | nil =>
      refine br_t cp_m1neg ⟨inc, ?_⟩
      rw [ec]
      refine nm_e ?_
      refine cp_unlink_68 (p := []) (q := []) hc hl hRg hRp hRq hUpq trivial hS hQ hH ?_
      intro src' sz' hp' qd' k1 k2 k3 k4 k5 k6
      refine K _ _ _ _ _ _ _ _ ⟨?_, ?_, trivial⟩ k1 k2 k3 k4 k5 (fun n h => ⟨k6 n (fun x hx => h x (List.mem_append.mpr (Or.inr hx))), rfl, rfl⟩) (fun c' hc' => ⟨pk_un hc', pk_un hc'⟩)
      · rw [pk_us]; rfl
      · rw [pk_us]; rfl
    | cons a q' =>
      have hai : cp_id a < 256 := (hRq a List.mem_cons_self).1.1
      have ea : (nI (cp_id a)).toNatClampNeg = cp_id a := nI_clamp (by omega)
      refine br_f (nI_pos (by omega)) ⟨vp_in_nI hai (by decide), ?_⟩
      show ∀ y, _
      rw [show cp_hx (a :: q') (-1) = nI (cp_id a) from rfl, ea]
      refine nm_e ?_
      have hG' : cp_G (upd a_cellPrev (cp_id a) (-1)) a_cellNext (-1) (a :: q') (-1) := cp_G_l hU5 hG4
      refine cp_unlink_68 (p := []) (q := a :: q') hc hl hRg hRp hRq hUpq hG' hS hQ hH ?_
      intro src' sz' hp' qd' k1 k2 k3 k4 k5 k6
      refine K _ _ _ _ _ _ _ _ ⟨?_, hD2.trans rfl, hG'⟩ k1 k2 k3 k4 k5 (fun n h => ⟨k6 n (fun x hx => h x (List.mem_append.mpr (Or.inr hx))), pk_un (fun e => h a (List.mem_append.mpr (Or.inr List.mem_cons_self)) e.symm), rfl⟩) (fun c' hc' => ⟨pk_un hc', rfl⟩)
      rw [pk_us]; rfl
  · have hbm : b ∈ p' ++ [b] := List.mem_append.mpr (Or.inr List.mem_cons_self)
    have hbi : cp_id b < 256 := (hRp b hbm).1
    have eb : (nI (cp_id b)).toNatClampNeg = cp_id b := nI_clamp (by omega)
    have elt : cp_lt (-1) (p' ++ [b]) = nI (cp_id b) := cp_lt_snoc _ _ _
    rw [elt] at hG2 ⊢
    refine br_f (nI_pos (by omega)) ⟨vp_in_nI hbi (by decide), ?_⟩
    rw [eb]
    refine nm_e ?_
    have hG1' : ∀ d, cp_G a_cellPrev (upd a_cellNext (cp_id b) d) (-1) (p' ++ [b]) d := fun d => cp_G_r hU1 hG1
    cases q with
    | nil =>
      refine br_t cp_m1neg ⟨inc, ?_⟩
      rw [ec]
      refine nm_e ?_
      have hGj : cp_G a_cellPrev (upd a_cellNext (cp_id b) (-1)) (-1) (p' ++ [b] ++ []) (-1) := by rw [List.append_nil]; exact hG1' _
      refine cp_unlink_68 (p := p' ++ [b]) (q := []) hc hl hRg hRp hRq hUpq hGj hS hQ hH ?_
      intro src' sz' hp' qd' k1 k2 k3 k4 k5 k6
      refine K _ _ _ _ _ _ _ _ ⟨?_, ?_, hGj⟩ k1 k2 k3 k4 k5 (fun n h => ⟨k6 n (fun x hx => h x (List.mem_append.mpr (Or.inr hx))), rfl, pk_un (fun e => h b (List.mem_append.mpr (Or.inl hbm)) e.symm)⟩) (fun c' hc' => ⟨rfl, pk_un hc'⟩)
      · rw [hD1]; cases p' <;> rfl
      · rw [pk_us, List.append_nil, elt]
    | cons a q' =>
      have hai : cp_id a < 256 := (hRq a List.mem_cons_self).1.1
      have ea : (nI (cp_id a)).toNatClampNeg = cp_id a := nI_clamp (by omega)
      refine br_f (nI_pos (by omega)) ⟨vp_in_nI hai (by decide), ?_⟩
      show ∀ y, _
      rw [show cp_hx (a :: q') (-1) = nI (cp_id a) from rfl, ea]
      refine nm_e ?_
      have hq : cp_G (upd a_cellPrev (cp_id a) (nI (cp_id b))) (upd a_cellNext (cp_id b) (nI (cp_id a))) (nI (cp_id b)) (a :: q') (-1) := by
        refine cp_G_fr _ _ _ (fun x hx => ⟨rfl, ?_⟩) (cp_G_l hU5 hG4)
        exact pk_un (fun e => hU3 b hbm x (List.mem_cons_of_mem _ hx) e.symm)
      have hp : cp_G (upd a_cellPrev (cp_id a) (nI (cp_id b))) (upd a_cellNext (cp_id b) (nI (cp_id a))) (-1) (p' ++ [b]) (nI (cp_id a)) := by
        refine cp_G_fr _ _ _ (fun x hx => ⟨?_, rfl⟩) (hG1' _)
        exact pk_un (fun e => hU3 x hx a (List.mem_cons_of_mem _ List.mem_cons_self) e)
      have hGj : cp_G (upd a_cellPrev (cp_id a) (nI (cp_id b))) (upd a_cellNext (cp_id b) (nI (cp_id a))) (-1) (p' ++ [b] ++ (a :: q')) (-1) := by
        refine cp_G_join hp ?_
        rw [elt]; exact hq
      refine cp_unlink_68 (p := p' ++ [b]) (q := a :: q') hc hl hRg hRp hRq hUpq hGj hS hQ hH ?_
      intro src' sz' hp' qd' k1 k2 k3 k4 k5 k6
      refine K _ _ _ _ _ _ _ _ ⟨?_, ?_, hGj⟩ k1 k2 k3 k4 k5 (fun n h => ⟨k6 n (fun x hx => h x (List.mem_append.mpr (Or.inr hx))), pk_un (fun e => h a (List.mem_append.mpr (Or.inr List.mem_cons_self)) e.symm), pk_un (fun e => h b (List.mem_append.mpr (Or.inl hbm)) e.symm)⟩) (fun c' hc' => ⟨rfl, rfl⟩)
      · rw [hD1]; cases p' <;> rfl
      · rw [hD2, cp_lt_app (-1) (p' ++ [b]) (g :: a :: q'), cp_lt_app (-1) (p' ++ [b]) (a :: q')]; rfl
/-- the scan from the tail -/
theorem cp_link_loop {post : SX → Prop} {n c : Nat} {p : List cp_N} (hn : n < 256) (hRp : ∀ x ∈ p, cp_id x < 256 ∧ (a_labelOf (cp_id x)).toInt ≤ (a_labelOf n).toInt)
    (K : wX_linkAccess_57 post (nI n) (nI c) (cp_lt (-1) p) f_cells f_functions f_limit f_status f_freeCount f_first f_size f_heapSize f_depth f_cur f_inserted f_overflowed a_bodySizes a_opAt a_aAt a_bAt a_baseValue a_settledValue a_outputValue a_changedMark a_cellHead a_cellTail a_kindOf a_subjectOf a_valueOf a_labelOf a_nextOf a_ownerOf a_leaveOf a_pcOf a_snapshot a_cellPrev a_cellNext a_sourceOf a_alive a_queued a_free a_nodeAt a_indexOf a_heap a_frameEnter a_framePc a_frameZone a_frameWait a_frameRegs) :
    ∀ (k : Nat) (q : List cp_N) (m hops : Nat) (d : Int32), q.length = k → k < m → k + hops ≤ 255 → (∀ x ∈ q, cp_id x < 256 ∧ (a_labelOf n).toInt < (a_labelOf (cp_id x)).toInt) → cp_G a_cellPrev a_cellNext (-1) (p ++ q) d →
      wX_linkAccess_17 post (nI n) (nI c) f_cells f_functions f_limit f_status f_freeCount f_first f_size f_heapSize f_depth f_cur f_inserted f_overflowed a_bodySizes a_opAt a_aAt a_bAt a_baseValue a_settledValue a_outputValue a_changedMark a_cellHead a_cellTail a_kindOf a_subjectOf a_valueOf a_labelOf a_nextOf a_ownerOf a_leaveOf a_pcOf a_snapshot a_cellPrev a_cellNext a_sourceOf a_alive a_queued a_free a_nodeAt a_indexOf a_heap a_frameEnter a_framePc a_frameZone a_frameWait a_frameRegs m (cp_lt (-1) (p ++ q)) (nI hops) := by
  have en : (nI n).toNatClampNeg = n := nI_clamp (by omega)
  have ein : vp_in (nI n) 256 := vp_in_nI hn (by decide)
  intro k
  induction k with
  | zero =>
    intro q m hops d hq hm hh hRq hG
    obtain rfl : q = [] := List.eq_nil_of_length_eq_zero hq
    obtain ⟨m, rfl⟩ : ∃ m', m = m' + 1 := ⟨m - 1, by omega⟩
    rw [List.append_nil]
    refine br_f (nI_ge (b := 256) (by omega) (by decide)) ?_
    rcases cp_nc p with rfl | ⟨p', b, rfl⟩
    · exact br_t cp_m1neg K
    · have hb := hRp b (List.mem_append.mpr (Or.inr List.mem_cons_self))
      have eb : (nI (cp_id b)).toNatClampNeg = cp_id b := nI_clamp (by omega)
      rw [cp_lt_snoc] at K ⊢
      refine br_f (nI_pos (by omega)) ⟨vp_in_nI hb.1 (by decide), ein, ?_⟩
      rw [eb, en]
      exact br_t (Int32.le_iff_toInt_le.mpr hb.2) K
  | succ k ih =>
    intro q m hops d hq hm hh hRq hG
    obtain ⟨m, rfl⟩ : ∃ m', m = m' + 1 := ⟨m - 1, by omega⟩
    rcases cp_nc q with rfl | ⟨q', y, rfl⟩
    · simp at hq
    · have hy := hRq y (List.mem_append.mpr (Or.inr List.mem_cons_self))
      have ey : (nI (cp_id y)).toNatClampNeg = cp_id y := nI_clamp (by omega)
      have hq' : q'.length = k := by simpa using hq
      rw [← List.append_assoc] at hG ⊢
      obtain ⟨g1, g2, _⟩ := (cp_G_app _ _ _ _).mp hG
      rw [cp_lt_snoc]
      refine br_f (nI_ge (b := 256) (by omega) (by decide)) (br_f (nI_pos (by omega)) ⟨vp_in_nI hy.1 (by decide), ein, ?_⟩)
      rw [ey, en]
      refine br_f (fun e => ?_) ⟨vp_in_nI hy.1 (by decide), nm_r g2 (nm_r (nI_1 _) ?_)⟩
      · have := Int32.le_iff_toInt_le.mp e; omega
      · exact ih q' m (hops + 1) _ hq' (by omega) (by omega) (fun x hx => hRq x (List.mem_append.mpr (Or.inl hx))) g1
end
end
section
section
variable {f_cells f_functions f_limit f_status f_freeCount f_first f_size f_heapSize f_depth f_cur f_inserted f_overflowed : Int32} {a_bodySizes a_opAt a_aAt a_bAt a_baseValue a_settledValue a_outputValue a_changedMark a_cellHead a_cellTail a_kindOf a_subjectOf a_valueOf a_labelOf a_nextOf a_ownerOf a_leaveOf a_pcOf a_snapshot a_cellPrev a_cellNext a_sourceOf a_alive a_queued a_free a_nodeAt a_indexOf a_heap a_frameEnter a_framePc a_frameZone a_frameWait a_frameRegs : Nat → Int32}
theorem cp_link_136 {post : SX → Prop} {p : List cp_N} {n : Nat} (hn : n < 256) (hRp : ∀ x ∈ p, cp_R0 a_kindOf a_subjectOf a_valueOf x) (hS : cp_So a_sourceOf (-1) p)
    (K : post (f_cells, f_functions, f_limit, f_status, f_freeCount, f_first, f_size, f_heapSize, f_depth, f_cur, f_inserted, f_overflowed, a_bodySizes, a_opAt, a_aAt, a_bAt, a_baseValue, a_settledValue, a_outputValue, a_changedMark, a_cellHead, a_cellTail, a_kindOf, a_subjectOf, a_valueOf, a_labelOf, a_nextOf, a_ownerOf, a_leaveOf, a_pcOf, a_snapshot, a_cellPrev, a_cellNext, upd a_sourceOf n (cp_lw (-1) p), a_alive, a_queued, a_free, a_nodeAt, a_indexOf, a_heap, a_frameEnter, a_framePc, a_frameZone, a_frameWait, a_frameRegs)) : wX_linkAccess_136 post (nI n) (cp_lt (-1) p) f_cells f_functions f_limit f_status f_freeCount f_first f_size f_heapSize f_depth f_cur f_inserted f_overflowed a_bodySizes a_opAt a_aAt a_bAt a_baseValue a_settledValue a_outputValue a_changedMark a_cellHead a_cellTail a_kindOf a_subjectOf a_valueOf a_labelOf a_nextOf a_ownerOf a_leaveOf a_pcOf a_snapshot a_cellPrev a_cellNext a_sourceOf a_alive a_queued a_free a_nodeAt a_indexOf a_heap a_frameEnter a_framePc a_frameZone a_frameWait a_frameRegs := by
  have en : (nI n).toNatClampNeg = n := nI_clamp (by omega)
  have ein : vp_in (nI n) 256 := vp_in_nI hn (by decide)
  unfold wX_linkAccess_136
  rw [en]
  rcases cp_nc p with rfl | ⟨p', b, rfl⟩
  · exact br_t cp_m1neg ⟨ein, nm_e K⟩
  · obtain ⟨hid, hk, hsb, hvl, _⟩ := hRp b (List.mem_append.mpr (Or.inr List.mem_cons_self))
    have eb : (nI (cp_id b)).toNatClampNeg = cp_id b := nI_clamp (by omega)
    have inb : vp_in (nI (cp_id b)) 256 := vp_in_nI hid (by decide)
    obtain ⟨hS1, hS2, _⟩ := (cp_So_app _ _ _).mp hS
    rw [cp_lw_snoc] at K
    rw [cp_lt_snoc]
    refine br_f (nI_pos (by omega)) ⟨inb, ?_⟩
    rw [eb, hk]
    refine br_c (fun h2 => ⟨ein, nm_e ?_⟩) (fun h2 => ⟨inb, nm_r hS2 ⟨ein, nm_e ?_⟩⟩)
    · rw [if_pos h2] at K; exact K
    · rw [if_neg h2] at K; exact K
theorem cp_link_77 {post : SX → Prop} {c : Nat} {p q : List cp_N} {g : cp_N} (hc : c < 16) (hid : cp_id g < 256) (hRp : ∀ x ∈ p, cp_R0 a_kindOf a_subjectOf a_valueOf x) (hRq : ∀ x ∈ q, cp_id x < 256)
    (hU : cp_U (p ++ g :: q)) (hD : cp_D (a_cellHead c) (a_cellTail c) a_cellPrev a_cellNext (p ++ q)) (hS : cp_So a_sourceOf (-1) p)
    (K : ∀ hd' tl' pv' nx', cp_D (hd' c) (tl' c) pv' nx' (p ++ g :: q) →
        (∀ n, (∀ x ∈ p ++ g :: q, cp_id x ≠ n) → pv' n = a_cellPrev n ∧ nx' n = a_cellNext n) → (∀ c', c' ≠ c → hd' c' = a_cellHead c' ∧ tl' c' = a_cellTail c') →
        post (f_cells, f_functions, f_limit, f_status, f_freeCount, f_first, f_size, f_heapSize, f_depth, f_cur, f_inserted, f_overflowed, a_bodySizes, a_opAt, a_aAt, a_bAt, a_baseValue, a_settledValue, a_outputValue, a_changedMark, hd', tl', a_kindOf, a_subjectOf, a_valueOf, a_labelOf, a_nextOf, a_ownerOf, a_leaveOf, a_pcOf, a_snapshot, pv', nx', upd a_sourceOf (cp_id g) (cp_lw (-1) p), a_alive, a_queued, a_free, a_nodeAt, a_indexOf, a_heap, a_frameEnter, a_framePc, a_frameZone, a_frameWait, a_frameRegs)) :
    wX_linkAccess_77 post (nI (cp_id g)) (nI c) (cp_lt (-1) p) (cp_hx q (-1)) f_cells f_functions f_limit f_status f_freeCount f_first f_size f_heapSize f_depth f_cur f_inserted f_overflowed a_bodySizes a_opAt a_aAt a_bAt a_baseValue a_settledValue a_outputValue a_changedMark a_cellHead a_cellTail a_kindOf a_subjectOf a_valueOf a_labelOf a_nextOf a_ownerOf a_leaveOf a_pcOf a_snapshot a_cellPrev a_cellNext a_sourceOf a_alive a_queued a_free a_nodeAt a_indexOf a_heap a_frameEnter a_framePc a_frameZone a_frameWait a_frameRegs := by
  have en : (nI (cp_id g)).toNatClampNeg = cp_id g := nI_clamp (by omega)
  have ein : vp_in (nI (cp_id g)) 256 := vp_in_nI hid (by decide)
  have ec : (nI c).toNatClampNeg = c := nI_clamp (by omega)
  have inc : vp_in (nI c) 16 := vp_in_nI hc (by decide)
  obtain ⟨hD1, hD2, hD3⟩ := hD
  obtain ⟨hG1, hG2⟩ := (cp_G_app _ _ _ _).mp hD3
  obtain ⟨hU1, hU2, hU3⟩ := cp_U_app.mp hU
  obtain ⟨hU4, hU5⟩ := cp_U_cons.mp hU2
  have gp : ∀ x ∈ p, cp_id x ≠ cp_id g := fun x hx => hU3 x hx g List.mem_cons_self
  unfold wX_linkAccess_77
  rw [en, ec]
  refine ⟨ein, nm_e ⟨ein, nm_e ?_⟩⟩
  -- the middle and the two sides behind both writes at g
  have hGp : ∀ d, cp_G a_cellPrev a_cellNext (-1) p d → cp_G (upd a_cellPrev (cp_id g) (cp_lt (-1) p)) (upd a_cellNext (cp_id g) (cp_hx q (-1))) (-1) p d := fun d h =>
    cp_G_fr _ _ _ (fun x hx => ⟨pk_un (gp x hx), pk_un (gp x hx)⟩) h
  have hGq : ∀ r, cp_G a_cellPrev a_cellNext r q (-1) → cp_G (upd a_cellPrev (cp_id g) (cp_lt (-1) p)) (upd a_cellNext (cp_id g) (cp_hx q (-1))) r q (-1) := fun d h =>
    cp_G_fr _ _ _ (fun x hx => ⟨pk_un (fun e => hU4 x hx e.symm), pk_un (fun e => hU4 x hx e.symm)⟩) h
  have hG1 := hGp _ hG1
  have hG2 := hGq _ hG2
  rcases cp_nc p with rfl | ⟨p', b, rfl⟩
  · refine br_t cp_m1neg ⟨inc, nm_e ?_⟩
    unfold wX_linkAccess_113
    cases q with
    | nil =>
      refine br_t cp_m1neg ⟨inc, ?_⟩
      rw [ec]
      refine nm_e (cp_link_136 (p := []) hid hRp hS ?_)
      refine K _ _ _ _ ⟨?_, ?_, ?_⟩ (fun n h => ⟨pk_un (fun e => h g List.mem_cons_self e.symm), pk_un (fun e => h g List.mem_cons_self e.symm)⟩) (fun c' hc' => ⟨pk_un hc', pk_un hc'⟩)
      · rw [pk_us]; rfl
      · rw [pk_us]; rfl
      · exact ⟨pk_us, pk_us, trivial⟩
    | cons a q' =>
      have hai : cp_id a < 256 := hRq a List.mem_cons_self
      have ea : (nI (cp_id a)).toNatClampNeg = cp_id a := nI_clamp (by omega)
      have hga := hU4 a List.mem_cons_self
      refine br_f (nI_pos (by omega)) ⟨vp_in_nI hai (by decide), ?_⟩
      show ∀ y, _
      rw [show cp_hx (a :: q') (-1) = nI (cp_id a) from rfl, ea]
      refine nm_e (cp_link_136 (p := []) hid hRp hS ?_)
      refine K _ _ _ _ ⟨?_, ?_, ?_⟩ (fun n h => ⟨?_, pk_un (fun e => h g List.mem_cons_self e.symm)⟩) (fun c' hc' => ⟨pk_un hc', rfl⟩)
      · rw [pk_us]; rfl
      · exact hD2
      · refine ⟨?_, pk_us, cp_G_l hU5 hG2⟩
        rw [pk_un hga, pk_us]; rfl
      · rw [pk_un (fun e => h a (List.mem_cons_of_mem _ List.mem_cons_self) e.symm), pk_un (fun e => h g List.mem_cons_self e.symm)]
  · have hbm : b ∈ p' ++ [b] := List.mem_append.mpr (Or.inr List.mem_cons_self)
    have hbi : cp_id b < 256 := (hRp b hbm).1
    have eb : (nI (cp_id b)).toNatClampNeg = cp_id b := nI_clamp (by omega)
    have elt : cp_lt (-1) (p' ++ [b]) = nI (cp_id b) := cp_lt_snoc _ _ _
    have hbg := gp b hbm
    refine br_f (by rw [elt]; exact nI_pos (by omega)) ⟨by rw [elt]; exact vp_in_nI hbi (by decide), ?_⟩
    rw [show (cp_lt (-1) (p' ++ [b])).toNatClampNeg = cp_id b by rw [elt]; exact eb]
    refine nm_e ?_
    unfold wX_linkAccess_113
    have hGr := fun d => cp_G_r (d' := d) hU1 hG1
    have hmem : ∀ n, (∀ x ∈ p' ++ [b] ++ g :: q, cp_id x ≠ n) → n ≠ cp_id g ∧ n ≠ cp_id b := fun n h =>
      ⟨fun e => h g (List.mem_append.mpr (Or.inr List.mem_cons_self)) e.symm, fun e => h b (List.mem_append.mpr (Or.inl hbm)) e.symm⟩
    cases q with
    | nil =>
      refine br_t cp_m1neg ⟨inc, ?_⟩
      rw [ec]
      refine nm_e (cp_link_136 (p := p' ++ [b]) hid hRp hS ?_)
      refine K _ _ _ _ ⟨?_, ?_, ?_⟩ (fun n h => ⟨pk_un (hmem n h).1, ?_⟩) (fun c' hc' => ⟨rfl, pk_un hc'⟩)
      · rw [hD1]; cases p' <;> rfl
      · rw [pk_us, cp_lt_snoc]
      · refine cp_G_join (hGr _) ⟨?_, ?_, trivial⟩
        · rw [pk_us]
        · rw [pk_un (fun e => hbg e.symm), pk_us]
      · rw [pk_un (hmem n h).2, pk_un (hmem n h).1]
    | cons a q' =>
      have hai : cp_id a < 256 := hRq a List.mem_cons_self
      have ea : (nI (cp_id a)).toNatClampNeg = cp_id a := nI_clamp (by omega)
      have hga := hU4 a List.mem_cons_self
      refine br_f (nI_pos (by omega)) ⟨vp_in_nI hai (by decide), ?_⟩
      show ∀ y, _
      rw [show cp_hx (a :: q') (-1) = nI (cp_id a) from rfl, ea]
      refine nm_e (cp_link_136 (p := p' ++ [b]) hid hRp hS ?_)
      refine K _ _ _ _ ⟨?_, ?_, ?_⟩ (fun n h => ⟨?_, ?_⟩) (fun c' hc' => ⟨rfl, rfl⟩)
      · rw [hD1]; cases p' <;> rfl
      · rw [hD2, cp_lt_app (-1) (p' ++ [b]) (g :: a :: q'), cp_lt_app (-1) (p' ++ [b]) (a :: q')]; rfl
      · refine cp_G_join ?_ ⟨?_, ?_, ?_⟩
        · refine cp_G_fr _ _ _ (fun x hx => ⟨?_, rfl⟩) (hGr _)
          exact pk_un (fun e => hU3 x hx a (List.mem_cons_of_mem _ List.mem_cons_self) e)
        · rw [pk_un hga, pk_us]
        · rw [pk_un (fun e => hbg e.symm), pk_us]; rfl
        · refine cp_G_fr _ _ _ (fun x hx => ⟨rfl, ?_⟩) (cp_G_l hU5 hG2)
          exact pk_un (fun e => hU3 b hbm x (List.mem_cons_of_mem _ hx) e.symm)
      · rw [pk_un (fun e => h a (List.mem_append.mpr (Or.inr (List.mem_cons_of_mem _ List.mem_cons_self))) e.symm), pk_un (hmem n h).1]
      · rw [pk_un (hmem n h).2, pk_un (hmem n h).1]
theorem cp_link {post : SX → Prop} {c : Nat} {p q : List cp_N} {g : cp_N} (hc : c < 16) (hl : q.length ≤ 255) (hid : cp_id g < 256) (hsb : a_subjectOf (cp_id g) = nI c) (hRp : ∀ x ∈ p, cp_R0 a_kindOf a_subjectOf a_valueOf x) (hRq : ∀ x ∈ q, cp_id x < 256)
    (hlp : ∀ x ∈ p, (a_labelOf (cp_id x)).toInt ≤ (a_labelOf (cp_id g)).toInt) (hlq : ∀ x ∈ q, (a_labelOf (cp_id g)).toInt < (a_labelOf (cp_id x)).toInt)
    (hU : cp_U (p ++ g :: q)) (hD : cp_D (a_cellHead c) (a_cellTail c) a_cellPrev a_cellNext (p ++ q)) (hS : cp_So a_sourceOf (-1) p)
    (K : ∀ hd' tl' pv' nx', cp_D (hd' c) (tl' c) pv' nx' (p ++ g :: q) →
        (∀ n, (∀ x ∈ p ++ g :: q, cp_id x ≠ n) → pv' n = a_cellPrev n ∧ nx' n = a_cellNext n) → (∀ c', c' ≠ c → hd' c' = a_cellHead c' ∧ tl' c' = a_cellTail c') →
        post (f_cells, f_functions, f_limit, f_status, f_freeCount, f_first, f_size, f_heapSize, f_depth, f_cur, f_inserted, f_overflowed, a_bodySizes, a_opAt, a_aAt, a_bAt, a_baseValue, a_settledValue, a_outputValue, a_changedMark, hd', tl', a_kindOf, a_subjectOf, a_valueOf, a_labelOf, a_nextOf, a_ownerOf, a_leaveOf, a_pcOf, a_snapshot, pv', nx', upd a_sourceOf (cp_id g) (cp_lw (-1) p), a_alive, a_queued, a_free, a_nodeAt, a_indexOf, a_heap, a_frameEnter, a_framePc, a_frameZone, a_frameWait, a_frameRegs)) :
    wpX_linkAccess post (f_cells, f_functions, f_limit, f_status, f_freeCount, f_first, f_size, f_heapSize, f_depth, f_cur, f_inserted, f_overflowed, a_bodySizes, a_opAt, a_aAt, a_bAt, a_baseValue, a_settledValue, a_outputValue, a_changedMark, a_cellHead, a_cellTail, a_kindOf, a_subjectOf, a_valueOf, a_labelOf, a_nextOf, a_ownerOf, a_leaveOf, a_pcOf, a_snapshot, a_cellPrev, a_cellNext, a_sourceOf, a_alive, a_queued, a_free, a_nodeAt, a_indexOf, a_heap, a_frameEnter, a_framePc, a_frameZone, a_frameWait, a_frameRegs) (nI (cp_id g)) := by
  have en : (nI (cp_id g)).toNatClampNeg = cp_id g := nI_clamp (by omega)
  have ein : vp_in (nI (cp_id g)) 256 := vp_in_nI hid (by decide)
  have ec : (nI c).toNatClampNeg = c := nI_clamp (by omega)
  have inc : vp_in (nI c) 16 := vp_in_nI hc (by decide)
  refine And.intro ein ?_
  rw [en]
  refine nm_r hsb ⟨inc, ?_⟩
  rw [ec]
  refine nm_r hD.2.1 ⟨q.length + 1, ?_⟩
  refine cp_link_loop (p := p) hid (fun x hx => ⟨(hRp x hx).1, hlp x hx⟩) ?_ q.length q (q.length + 1) 0 (-1) rfl (by omega) (by omega) (fun x hx => ⟨hRq x hx, hlq x hx⟩) hD.2.2
  unfold wX_linkAccess_57
  rw [ec]
  refine ⟨inc, ?_⟩
  have h77 := cp_link_77 hc hid hRp hRq hU hD hS K
  rcases cp_nc p with rfl | ⟨p', b, rfl⟩
  · exact nm_r hD.1 (br_t cp_m1neg h77)
  · have hbi : cp_id b < 256 := (hRp b (List.mem_append.mpr (Or.inr List.mem_cons_self))).1
    have eb : (nI (cp_id b)).toNatClampNeg = cp_id b := nI_clamp (by omega)
    have elt : cp_lt (-1) (p' ++ [b]) = nI (cp_id b) := cp_lt_snoc _ _ _
    have g1 := ((cp_G_app _ _ _ _).mp ((cp_G_app _ _ _ _).mp hD.2.2).1).2.2.1
    rw [elt] at h77 ⊢
    refine nm_e (br_f (nI_pos (by omega)) ⟨vp_in_nI hbi (by decide), ?_⟩)
    rw [eb]
    exact nm_r g1 h77
end
end
section
/-! ===== the state of an evaluation: nodes, labels, free stack, cells ===== -/
/-- four registers of an array -/
def cp_rg (fr : Nat → Int32) (i : Nat) : Nat → Int32 := fun r => if r < 4 then fr (i * 4 + r) else 0
theorem cp_rg_upd {fr : Nat → Int32} {i a : Nat} {v : Int32} (h : a < 4) : cp_rg (upd fr (i * 4 + a) v) i = upd (cp_rg fr i) a v := by
  funext r
  show (if r < 4 then (if i * 4 + r = i * 4 + a then v else fr (i * 4 + r)) else 0) = (if r = a then v else if r < 4 then fr (i * 4 + r) else 0)
  by_cases h1 : r = a
  · subst h1; rw [if_pos h, if_pos rfl, if_pos rfl]
  · rw [if_neg h1]
    by_cases h2 : r < 4
    · rw [if_pos h2, if_pos h2, if_neg (by omega)]
    · rw [if_neg h2, if_neg h2]
theorem cp_rg_ne {fr : Nat → Int32} {i j a : Nat} {v : Int32} (h : a < 4) (hn : i ≠ j) : cp_rg (upd fr (j * 4 + a) v) i = cp_rg fr i := by
  funext r
  show (if r < 4 then (if i * 4 + r = j * 4 + a then v else fr (i * 4 + r)) else 0) = _
  by_cases h2 : r < 4
  · rw [if_pos h2, if_neg (by omega)]; exact (if_pos h2).symm
  · rw [if_neg h2]; exact (if_neg h2).symm
theorem cp_rg_at {fr : Nat → Int32} {i a : Nat} (h : a < 4) : cp_rg fr i a = fr (i * 4 + a) := if_pos h
/-- the arrays show the node, all of it -/
def cp_R (kd sb vl ow lv pc sn : Nat → Int32) (cN fN : Nat) (g : cp_N) : Prop :=
  cp_R0 kd sb vl g ∧ ow (cp_id g) = nI (cp_o g) ∧ cp_o g < 256 ∧ (cp_k g = 0 ∨ cp_k g = 1 ∨ cp_k g = 2 ∨ cp_k g = 3) ∧ (cp_k g = 1 ∨ cp_k g = 2 → cp_s g < cN) ∧ (cp_k g = 0 → cp_s g < fN ∧ cp_o g = cp_id g) ∧
  (cp_k g = 3 → lv (cp_o g) = nI (cp_id g)) ∧ (cp_k g = 1 → pc (cp_id g) = nI (cp_pc g) ∧ cp_rg sn (cp_id g) = cp_sn g)
def cp_Al (al : Nat → Int32) (L : List cp_N) : Prop := ∀ n, n < 256 → (al n ≠ 0 ↔ ∃ g ∈ L, cp_id g = n)
/-- the free stack -/
def cp_Fr (fr : Nat → Int32) (fc : Nat) (qd : Nat → Int32) (L : List cp_N) : Prop :=
  (∀ i, i < fc → ∃ n, n < 256 ∧ fr i = nI n ∧ qd n = 0 ∧ ∀ g ∈ L, cp_id g ≠ n ∧ cp_o g ≠ n) ∧ (∀ i j, i < fc → j < fc → fr i = fr j → i = j)
def cp_Lb (lab : Nat → Int32) (L : List cp_N) : Prop := L.Pairwise (fun g h => (lab (cp_id g)).toInt < (lab (cp_id h)).toInt)
theorem cp_Lb_U {lab : Nat → Int32} {L : List cp_N} (h : cp_Lb lab L) : cp_U L := List.Pairwise.imp (fun {a b} hab e => by rw [e] at hab; omega) h
def cp_Lc (lab : Nat → Int32) (ins : Nat) (pre post : List cp_N) : Prop :=
  (∀ g ∈ pre ++ post, 0 ≤ (lab (cp_id g)).toInt ∧ (lab (cp_id g)).toInt ≤ 30720 + ins) ∧ (∀ g ∈ post, (lab (cp_id g)).toInt % 256 = 0) ∧ (∀ p z, pre = p ++ [z] → (lab (cp_id z)).toInt % 256 ≤ ins)
/-- labels of queued nodes -/
def cp_Lq (lab qd : Nat → Int32) : Prop := ∀ n, n < 256 → qd n ≠ 0 → 0 ≤ (lab n).toInt ∧ (lab n).toInt < 1073741824
/-- what a frame's enter must show -/
def cp_SP (fr : Nat → Int32) (fc : Nat) (kd sb vl : Nat → Int32) (fN : Nat) (e f : Nat) (x : Int32) : Prop :=
  e < 256 ∧ sb e = nI f ∧ vl e = x ∧ f < fN ∧ (∀ i, i < fc → fr i ≠ nI e) ∧ kd e = 0
/-- the chains of all cells -/
def cp_CI (hd tl pv nx src qd base : Nat → Int32) (L : List cp_N) : Prop :=
  ∀ c, c < 16 → cp_D (hd c) (tl c) pv nx (cp_fl c L) ∧ cp_So src (-1) (cp_fl c L) ∧ cp_SQ qd (base c) (cp_fl c L)
/-- all but chains, time links and frames -/
def cp_B (cN fN lN ins fc : Nat) (pre post : List cp_N) (f_cells f_functions f_limit f_inserted f_freeCount f_heapSize : Int32) (a_kindOf a_subjectOf a_valueOf a_labelOf a_ownerOf a_leaveOf a_pcOf a_snapshot a_alive a_queued a_free a_heap : Nat → Int32) : Prop :=
  (f_cells = nI cN ∧ 2 ≤ cN ∧ cN ≤ 16 ∧ f_functions = nI fN ∧ fN ≤ 6 ∧ f_limit = nI lN ∧ lN ≤ 120 ∧ f_inserted = nI ins ∧ ins ≤ lN ∧ f_freeCount = nI fc ∧ 136 ≤ fc + ins ∧ fc ≤ 256 ∧ (pre ++ post).length ≤ 120 + ins) ∧
  (∀ g ∈ pre ++ post, cp_R a_kindOf a_subjectOf a_valueOf a_ownerOf a_leaveOf a_pcOf a_snapshot cN fN g) ∧ cp_Lb a_labelOf (pre ++ post) ∧ cp_Lc a_labelOf ins pre post ∧
  cp_H f_heapSize a_heap a_queued a_labelOf ∧ (∀ g ∈ pre ++ post, a_queued (cp_id g) ≠ 0 → cp_k g = 1) ∧ cp_Al a_alive (pre ++ post) ∧ cp_Fr a_free fc a_queued (pre ++ post) ∧ cp_Lq a_labelOf a_queued
theorem cp_fl_R {kd sb vl : Nat → Int32} {c : Nat} {L : List cp_N} (h : ∀ g ∈ L, cp_R0 kd sb vl g) : ∀ g ∈ cp_fl c L, cp_R0 kd sb vl g ∧ (cp_k g = 1 ∨ cp_k g = 2) ∧ cp_s g = c := by
  intro g hg
  have := cp_fl_mem hg
  exact ⟨h g this.1, this.2⟩
theorem cp_fl_len {c : Nat} {L : List cp_N} : (cp_fl c L).length ≤ L.length := List.length_filter_le ..
/-- links of other cells are not touched -/
theorem cp_fl_off {L : List cp_N} {c c' : Nat} {x y : cp_N} (hU : cp_U L) (hx : x ∈ cp_fl c L) (hy : y ∈ cp_fl c' L) (hc : c' ≠ c) : cp_id x ≠ cp_id y := by
  intro e
  have h1 := cp_fl_mem hx
  have h2 := cp_fl_mem hy
  have := cp_U_inj hU h1.1 h2.1 e
  subst this
  exact hc (h2.2.2.symm.trans h1.2.2)
section
variable {f_cells f_functions f_limit f_status f_freeCount f_first f_size f_heapSize f_depth f_cur f_inserted f_overflowed : Int32} {a_bodySizes a_opAt a_aAt a_bAt a_baseValue a_settledValue a_outputValue a_changedMark a_cellHead a_cellTail a_kindOf a_subjectOf a_valueOf a_labelOf a_nextOf a_ownerOf a_leaveOf a_pcOf a_snapshot a_cellPrev a_cellNext a_sourceOf a_alive a_queued a_free a_nodeAt a_indexOf a_heap a_frameEnter a_framePc a_frameZone a_frameWait a_frameRegs : Nat → Int32}
/-- an access leaves its chain -/
theorem cp_unlinkA {post : SX → Prop} {p q : List cp_N} {g : cp_N} (hk : cp_k g = 1 ∨ cp_k g = 2) (hlen : (p ++ g :: q).length ≤ 255)
    (hR : ∀ x ∈ p ++ g :: q, cp_R0 a_kindOf a_subjectOf a_valueOf x) (hU : cp_U (p ++ g :: q)) (hI : cp_CI a_cellHead a_cellTail a_cellPrev a_cellNext a_sourceOf a_queued a_baseValue (p ++ g :: q)) (hH : cp_H f_heapSize a_heap a_queued a_labelOf)
    (K : ∀ hd' tl' pv' nx' src' sz' hp' qd', cp_CI hd' tl' pv' nx' src' qd' a_baseValue (p ++ q) → cp_H sz' hp' qd' a_labelOf → (∀ n, a_queued n ≠ 0 → qd' n ≠ 0) → (∀ n, qd' n ≠ 0 → a_queued n ≠ 0 ∨ ∃ x ∈ q, cp_id x = n ∧ cp_k x = 1) →
        post (f_cells, f_functions, f_limit, f_status, f_freeCount, f_first, f_size, sz', f_depth, f_cur, f_inserted, f_overflowed, a_bodySizes, a_opAt, a_aAt, a_bAt, a_baseValue, a_settledValue, a_outputValue, a_changedMark, hd', tl', a_kindOf, a_subjectOf, a_valueOf, a_labelOf, a_nextOf, a_ownerOf, a_leaveOf, a_pcOf, a_snapshot, pv', nx', src', a_alive, qd', a_free, a_nodeAt, a_indexOf, hp', a_frameEnter, a_framePc, a_frameZone, a_frameWait, a_frameRegs)) :
    wpX_unlinkAccess post (f_cells, f_functions, f_limit, f_status, f_freeCount, f_first, f_size, f_heapSize, f_depth, f_cur, f_inserted, f_overflowed, a_bodySizes, a_opAt, a_aAt, a_bAt, a_baseValue, a_settledValue, a_outputValue, a_changedMark, a_cellHead, a_cellTail, a_kindOf, a_subjectOf, a_valueOf, a_labelOf, a_nextOf, a_ownerOf, a_leaveOf, a_pcOf, a_snapshot, a_cellPrev, a_cellNext, a_sourceOf, a_alive, a_queued, a_free, a_nodeAt, a_indexOf, a_heap, a_frameEnter, a_framePc, a_frameZone, a_frameWait, a_frameRegs) (nI (cp_id g)) := by
  have hmg : g ∈ p ++ g :: q := List.mem_append.mpr (Or.inr List.mem_cons_self)
  have hs16 : cp_s g < 16 := (hR g hmg).2.2.2.2 hk
  have hAg : cp_A (cp_s g) g = true := cp_A_iff.mpr ⟨hk, rfl⟩
  have efl : cp_fl (cp_s g) (p ++ g :: q) = cp_fl (cp_s g) p ++ g :: cp_fl (cp_s g) q := by rw [cp_fl_app, cp_fl_y hAg]
  have efl' : ∀ c', c' ≠ cp_s g → cp_fl c' (p ++ g :: q) = cp_fl c' (p ++ q) := fun c' hc' => by
    rw [cp_fl_app, cp_fl_n (cp_A_no (fun z => hc' z.2.symm)), ← cp_fl_app]
  obtain ⟨hD, hS, hQ⟩ := hI (cp_s g) hs16
  have hRf := cp_fl_R (c := cp_s g) hR
  have hUf := cp_U_fl (c := cp_s g) hU
  rw [efl] at hD hS hQ hRf hUf
  have hlq : (cp_fl (cp_s g) q).length ≤ 255 := by
    have := cp_fl_len (c := cp_s g) (L := q)
    have h2 : (p ++ g :: q).length = p.length + (q.length + 1) := by simp
    omega
  refine cp_unlink hs16 hlq hRf hUf hD hS hQ hH ?_
  intro hd' tl' pv' nx' src' sz' hp' qd' k1 k2 k3 k4 k5 k6 k7 k8
  refine K hd' tl' pv' nx' src' sz' hp' qd' (fun c' hc' => ?_) k4 k5 (fun n h => ?_)
  · by_cases e : c' = cp_s g
    · subst e
      rw [cp_fl_app]
      exact ⟨k1, k2, k3⟩
    · obtain ⟨⟨d1, d2, d3⟩, s1, q1⟩ := hI c' hc'
      have hoff : ∀ y ∈ cp_fl c' (p ++ q), ∀ x ∈ cp_fl (cp_s g) p ++ cp_fl (cp_s g) q, cp_id x ≠ cp_id y := by
        intro y hy x hx
        refine cp_fl_off (c := cp_s g) (c' := c') hU ?_ ?_ e
        · rw [efl]
          rcases List.mem_append.mp hx with h | h
          · exact List.mem_append.mpr (Or.inl h)
          · exact List.mem_append.mpr (Or.inr (List.mem_cons_of_mem _ h))
        · rw [efl' c' e]; exact hy
      rw [efl' c' e] at d1 d2 d3 s1 q1
      refine ⟨⟨(k8 c' e).1.trans d1, (k8 c' e).2.trans d2, ?_⟩, ?_, ?_⟩
      · exact cp_G_fr _ _ _ (fun y hy => ⟨(k7 _ (hoff y hy)).2.1, (k7 _ (hoff y hy)).2.2⟩) d3
      · exact cp_So_fr _ _ (fun y hy => (k7 _ (hoff y hy)).1) s1
      · exact cp_SQ_mono _ _ (fun y _ h => k5 _ h) q1
  · rcases k6 n h with h | ⟨x, hx, e⟩
    · exact Or.inl h
    · exact Or.inr ⟨x, (cp_fl_mem hx).1, e⟩
/-- an access comes into its chain -/
theorem cp_linkA {post : SX → Prop} {p q : List cp_N} {g : cp_N} (hk : cp_k g = 1 ∨ cp_k g = 2) (hs16 : cp_s g < 16) (hid : cp_id g < 256) (hsb : a_subjectOf (cp_id g) = nI (cp_s g)) (hlen : (p ++ q).length ≤ 255)
    (hR : ∀ x ∈ p ++ q, cp_R0 a_kindOf a_subjectOf a_valueOf x) (hL : cp_Lb a_labelOf (p ++ g :: q)) (hI : cp_CI a_cellHead a_cellTail a_cellPrev a_cellNext a_sourceOf a_queued a_baseValue (p ++ q))
    (K : ∀ hd' tl' pv' nx' src', (∀ c, c < 16 → cp_D (hd' c) (tl' c) pv' nx' (cp_fl c (p ++ g :: q))) → (∀ c, c < 16 → c ≠ cp_s g → cp_So src' (-1) (cp_fl c (p ++ g :: q)) ∧ cp_SQ a_queued (a_baseValue c) (cp_fl c (p ++ g :: q))) →
        cp_So src' (-1) (cp_fl (cp_s g) p ++ [g]) → cp_So src' (cp_lw (-1) (cp_fl (cp_s g) p)) (cp_fl (cp_s g) q) → src' (cp_id g) = cp_lw (-1) (cp_fl (cp_s g) p) →
        post (f_cells, f_functions, f_limit, f_status, f_freeCount, f_first, f_size, f_heapSize, f_depth, f_cur, f_inserted, f_overflowed, a_bodySizes, a_opAt, a_aAt, a_bAt, a_baseValue, a_settledValue, a_outputValue, a_changedMark, hd', tl', a_kindOf, a_subjectOf, a_valueOf, a_labelOf, a_nextOf, a_ownerOf, a_leaveOf, a_pcOf, a_snapshot, pv', nx', src', a_alive, a_queued, a_free, a_nodeAt, a_indexOf, a_heap, a_frameEnter, a_framePc, a_frameZone, a_frameWait, a_frameRegs)) :
    wpX_linkAccess post (f_cells, f_functions, f_limit, f_status, f_freeCount, f_first, f_size, f_heapSize, f_depth, f_cur, f_inserted, f_overflowed, a_bodySizes, a_opAt, a_aAt, a_bAt, a_baseValue, a_settledValue, a_outputValue, a_changedMark, a_cellHead, a_cellTail, a_kindOf, a_subjectOf, a_valueOf, a_labelOf, a_nextOf, a_ownerOf, a_leaveOf, a_pcOf, a_snapshot, a_cellPrev, a_cellNext, a_sourceOf, a_alive, a_queued, a_free, a_nodeAt, a_indexOf, a_heap, a_frameEnter, a_framePc, a_frameZone, a_frameWait, a_frameRegs) (nI (cp_id g)) := by
  have hU := cp_Lb_U hL
  have hAg : cp_A (cp_s g) g = true := cp_A_iff.mpr ⟨hk, rfl⟩
  have efl : cp_fl (cp_s g) (p ++ g :: q) = cp_fl (cp_s g) p ++ g :: cp_fl (cp_s g) q := by rw [cp_fl_app, cp_fl_y hAg]
  have efl' : ∀ c', c' ≠ cp_s g → cp_fl c' (p ++ g :: q) = cp_fl c' (p ++ q) := fun c' hc' => by
    rw [cp_fl_app, cp_fl_n (cp_A_no (fun z => hc' z.2.symm)), ← cp_fl_app]
  obtain ⟨hD, hS, hQ⟩ := hI (cp_s g) hs16
  have hRf := cp_fl_R (c := cp_s g) hR
  have hUf := cp_U_fl (c := cp_s g) hU
  rw [cp_fl_app] at hD hS hQ hRf
  rw [efl] at hUf
  have hlq : (cp_fl (cp_s g) q).length ≤ 255 := by
    have := cp_fl_len (c := cp_s g) (L := q)
    have h2 : (p ++ q).length = p.length + q.length := by simp
    omega
  obtain ⟨hS1, hS2⟩ := (cp_So_app _ _ _).mp hS
  obtain ⟨hL1, hL2, hL3⟩ := List.pairwise_append.mp hL
  obtain ⟨hL4, hL5⟩ := List.pairwise_cons.mp hL2
  obtain ⟨hU1, hU2, hU3⟩ := cp_U_app.mp hUf
  obtain ⟨hU4, hU5⟩ := cp_U_cons.mp hU2
  refine cp_link hs16 hlq hid hsb (fun x hx => (hRf x (List.mem_append.mpr (Or.inl hx))).1) (fun x hx => (hRf x (List.mem_append.mpr (Or.inr hx))).1.1)
    (fun x hx => Int.le_of_lt (hL3 x (cp_fl_mem hx).1 g List.mem_cons_self)) (fun x hx => hL4 x (cp_fl_mem hx).1) hUf hD hS1 ?_
  intro hd' tl' pv' nx' k1 k2 k3
  have gp : ∀ x ∈ cp_fl (cp_s g) p, cp_id x ≠ cp_id g := fun x hx => hU3 x hx g List.mem_cons_self
  refine K hd' tl' pv' nx' _ (fun c' hc' => ?_) (fun c' hc' e => ?_) ?_ ?_ pk_us
  · by_cases e : c' = cp_s g
    · subst e; rw [efl]; exact k1
    · obtain ⟨⟨d1, d2, d3⟩, s1, q1⟩ := hI c' hc'
      rw [efl' c' e]
      refine ⟨(k3 c' e).1.trans d1, (k3 c' e).2.trans d2, cp_G_fr _ _ _ (fun y hy => k2 _ (fun x hx => ?_)) d3⟩
      refine cp_fl_off (c := cp_s g) (c' := c') hU ?_ ?_ e
      · rw [efl]; exact hx
      · rw [efl' c' e]; exact hy
  · obtain ⟨_, s1, q1⟩ := hI c' hc'
    rw [efl' c' e]
    refine ⟨cp_So_fr _ _ (fun y hy => pk_un (fun e2 => ?_)) s1, q1⟩
    refine cp_fl_off (c := cp_s g) (c' := c') (x := g) (y := y) hU ?_ ?_ e e2.symm
    · rw [efl]; exact List.mem_append.mpr (Or.inr List.mem_cons_self)
    · rw [efl' c' e]; exact hy
  · refine (cp_So_app _ _ _).mpr ⟨cp_So_fr _ _ (fun x hx => pk_un (gp x hx)) hS1, pk_us, trivial⟩
  · exact cp_So_fr _ _ (fun x hx => pk_un (fun e => hU4 x hx e.symm)) hS2
end
end
section
/-! ===== discardUntil, findOld ===== -/
theorem cp_fl_skip {c : Nat} {p q : List cp_N} {x : cp_N} (h : ¬ (cp_k x = 1 ∨ cp_k x = 2)) : cp_fl c (p ++ x :: q) = cp_fl c (p ++ q) := by
  rw [cp_fl_app, cp_fl_n (cp_A_no (fun z => h z.1)), ← cp_fl_app]
theorem cp_CI_skip {hd tl pv nx src qd base : Nat → Int32} {p q : List cp_N} {x : cp_N} (h : ¬ (cp_k x = 1 ∨ cp_k x = 2)) : cp_CI hd tl pv nx src qd base (p ++ x :: q) ↔ cp_CI hd tl pv nx src qd base (p ++ q) := by
  unfold cp_CI
  constructor
  · intro H c hc
    have := H c hc
    rw [cp_fl_skip h] at this; exact this
  · intro H c hc
    have := H c hc
    rw [cp_fl_skip h]; exact this
theorem cp_mem_skip {p q : List cp_N} {x y : cp_N} (h : y ∈ p ++ q) : y ∈ p ++ x :: q := by
  rcases List.mem_append.mp h with h | h
  · exact List.mem_append.mpr (Or.inl h)
  · exact List.mem_append.mpr (Or.inr (List.mem_cons_of_mem _ h))
theorem cp_pw_skip {r : cp_N → cp_N → Prop} {p q : List cp_N} {x : cp_N} (h : (p ++ x :: q).Pairwise r) : (p ++ q).Pairwise r := by
  obtain ⟨h1, h2, h3⟩ := List.pairwise_append.mp h
  obtain ⟨h4, h5⟩ := List.pairwise_cons.mp h2
  exact List.pairwise_append.mpr ⟨h1, h5, fun a ha b hb => h3 a ha b (List.mem_cons_of_mem _ hb)⟩
section
variable {f_cells f_functions f_limit f_status f_freeCount f_first f_size f_heapSize f_depth f_cur f_inserted f_overflowed : Int32} {a_bodySizes a_opAt a_aAt a_bAt a_baseValue a_settledValue a_outputValue a_changedMark a_cellHead a_cellTail a_kindOf a_subjectOf a_valueOf a_labelOf a_nextOf a_ownerOf a_leaveOf a_pcOf a_snapshot a_cellPrev a_cellNext a_sourceOf a_alive a_queued a_free a_nodeAt a_indexOf a_heap a_frameEnter a_framePc a_frameZone a_frameWait a_frameRegs : Nat → Int32}
theorem cp_B_drop {cN fN lN ins fc : Nat} {pre Q : List cp_N} {x : cp_N} {sz' : Int32} {hp' qd' : Nat → Int32} (hB : cp_B cN fN lN ins fc pre (x :: Q) f_cells f_functions f_limit f_inserted f_freeCount f_heapSize a_kindOf a_subjectOf a_valueOf a_labelOf a_ownerOf a_leaveOf a_pcOf a_snapshot a_alive a_queued a_free a_heap) (hH : cp_H sz' hp' qd' a_labelOf) (hq : ∀ n, qd' n ≠ 0 → a_queued n ≠ 0 ∨ ∃ y ∈ Q, cp_id y = n ∧ cp_k y = 1) :
    cp_B cN fN lN ins fc pre Q f_cells f_functions f_limit f_inserted f_freeCount sz' a_kindOf a_subjectOf a_valueOf a_labelOf a_ownerOf a_leaveOf a_pcOf a_snapshot (upd a_alive (cp_id x) 0) qd' a_free hp' := by
  obtain ⟨⟨n1, n2, n3, n4, n5, n6, n7, n8, n9, n10, n11, n12, n13⟩, hR, hL, ⟨hc1, hc2, hc3⟩, _, hqk, hA, ⟨hF1, hF2⟩, hLq⟩ := hB
  have hU := cp_Lb_U hL
  have hxU : ∀ y ∈ pre ++ Q, cp_id y ≠ cp_id x := by
    intro y hy
    obtain ⟨u1, u2, u3⟩ := cp_U_app.mp hU
    rcases List.mem_append.mp hy with h | h
    · exact u3 y h x List.mem_cons_self
    · exact fun e => (cp_U_cons.mp u2).1 y h e.symm
  refine ⟨⟨n1, n2, n3, n4, n5, n6, n7, n8, n9, n10, n11, n12, ?_⟩, fun g hg => hR g (cp_mem_skip hg), cp_pw_skip hL, ⟨fun g hg => hc1 g (cp_mem_skip hg), fun g hg => hc2 g (List.mem_cons_of_mem _ hg), hc3⟩, hH, fun g hg h => ?_, fun n hn => ?_, ⟨fun i hi => ?_, hF2⟩, fun n hn h => ?_⟩
  · have : (pre ++ x :: Q).length = (pre ++ Q).length + 1 := by simp; omega
    omega
  · rcases hq _ h with h | ⟨y, hy, e, k⟩
    · exact hqk g (cp_mem_skip hg) h
    · have := cp_U_inj hU (cp_mem_skip hg) (cp_mem_skip (List.mem_append.mpr (Or.inr hy))) e.symm
      rw [this]; exact k
  · by_cases e : n = cp_id x
    · rw [e, pk_us]
      exact ⟨fun h => absurd rfl h, fun ⟨g, hg, e2⟩ => absurd e2 (hxU g hg)⟩
    · rw [pk_un e, hA n hn]
      constructor
      · rintro ⟨g, hg, e2⟩
        rcases List.mem_append.mp hg with h | h
        · exact ⟨g, List.mem_append.mpr (Or.inl h), e2⟩
        · rcases List.mem_cons.mp h with h | h
          · rw [h] at e2; exact absurd e2.symm e
          · exact ⟨g, List.mem_append.mpr (Or.inr h), e2⟩
      · rintro ⟨g, hg, e2⟩
        exact ⟨g, cp_mem_skip hg, e2⟩
  · obtain ⟨n, hn, e, hqn, hno⟩ := hF1 i hi
    refine ⟨n, hn, e, ?_, fun g hg => hno g (cp_mem_skip hg)⟩
    by_cases h : qd' n = 0
    · exact h
    · rcases hq n h with h | ⟨y, hy, e2, _⟩
      · exact absurd hqn h
      · exact absurd e2 (hno y (cp_mem_skip (List.mem_append.mpr (Or.inr hy)))).1
  · rcases hq n h with h | ⟨y, hy, e2, _⟩
    · exact hLq n hn h
    · have := hc1 y (cp_mem_skip (List.mem_append.mpr (Or.inr hy)))
      rw [e2] at this
      exact ⟨this.1, by omega⟩
theorem cp_discard_loop {post : SX → Prop} {cN fN lN ins fc z : Nat} {pre rest : List cp_N} {sp : cp_N} (hz : z < 256) (hcur : f_cur = nI z) :
    ∀ (O : List cp_N) (m hops : Nat) (al hd tl pv nx src : Nat → Int32) (sz : Int32) (hp qd : Nat → Int32), O.length < m → O.length + hops ≤ 255 →
      cp_B cN fN lN ins fc pre (O ++ sp :: rest) f_cells f_functions f_limit f_inserted f_freeCount sz a_kindOf a_subjectOf a_valueOf a_labelOf a_ownerOf a_leaveOf a_pcOf a_snapshot al qd a_free hp →
      cp_CI hd tl pv nx src qd a_baseValue (pre ++ (O ++ sp :: rest)) → cp_Nx a_nextOf (O ++ sp :: rest) (-1) →
      (∀ al' hd' tl' pv' nx' src' sz' hp' qd', cp_B cN fN lN ins fc pre (sp :: rest) f_cells f_functions f_limit f_inserted f_freeCount sz' a_kindOf a_subjectOf a_valueOf a_labelOf a_ownerOf a_leaveOf a_pcOf a_snapshot al' qd' a_free hp' →
        cp_CI hd' tl' pv' nx' src' qd' a_baseValue (pre ++ (sp :: rest)) →
        post (f_cells, f_functions, f_limit, f_status, f_freeCount, f_first, f_size, sz', f_depth, f_cur, f_inserted, f_overflowed, a_bodySizes, a_opAt, a_aAt, a_bAt, a_baseValue, a_settledValue, a_outputValue, a_changedMark, hd', tl', a_kindOf, a_subjectOf, a_valueOf, a_labelOf, upd a_nextOf z (nI (cp_id sp)), a_ownerOf, a_leaveOf, a_pcOf, a_snapshot, pv', nx', src', al', qd', a_free, a_nodeAt, a_indexOf, hp', a_frameEnter, a_framePc, a_frameZone, a_frameWait, a_frameRegs)) →
      wX_discardUntil_12 post (nI (cp_id sp)) m (cp_hx (O ++ sp :: rest) (-1)) (nI hops) f_cells f_functions f_limit f_status f_freeCount f_first f_size sz f_depth f_cur f_inserted f_overflowed a_bodySizes a_opAt a_aAt a_bAt a_baseValue a_settledValue a_outputValue a_changedMark hd tl a_kindOf a_subjectOf a_valueOf a_labelOf a_nextOf a_ownerOf a_leaveOf a_pcOf a_snapshot pv nx src al qd a_free a_nodeAt a_indexOf hp a_frameEnter a_framePc a_frameZone a_frameWait a_frameRegs := by
  intro O
  induction O with
  | nil =>
    intro m hops al hd tl pv nx src sz hp qd hm hh hB hI hN K
    obtain ⟨m, rfl⟩ : ∃ m', m = m' + 1 := ⟨m - 1, by have : ([] : List cp_N).length = 0 := rfl; omega⟩
    have hh' : hops ≤ 255 := by have : ([] : List cp_N).length = 0 := rfl; omega
    have hsp : cp_id sp < 256 := (hB.2.1 sp (List.mem_append.mpr (Or.inr List.mem_cons_self))).1.1
    refine br_f (nI_ge (b := 256) (by omega) (by decide)) (br_f (nI_pos (by omega)) (br_t rfl ⟨by rw [hcur]; exact vp_in_nI hz (by decide), ?_⟩))
    rw [show f_cur.toNatClampNeg = z by rw [hcur]; exact nI_clamp (by omega)]
    exact nm_e (K _ _ _ _ _ _ _ _ _ hB hI)
  | cons x t ih =>
    intro m hops al hd tl pv nx src sz hp qd hm hh hB hI hN K
    have hlen : (x :: t).length = t.length + 1 := rfl
    obtain ⟨m, rfl⟩ : ∃ m', m = m' + 1 := ⟨m - 1, by omega⟩
    have hR := hB.2.1
    have hU := cp_Lb_U hB.2.2.1
    have hmx : x ∈ pre ++ (x :: t ++ sp :: rest) := List.mem_append.mpr (Or.inr List.mem_cons_self)
    have hms : sp ∈ t ++ sp :: rest := List.mem_append.mpr (Or.inr List.mem_cons_self)
    obtain ⟨⟨hid, hk, hsb, hvl, hs16⟩, _⟩ := hR x hmx
    have hsp : cp_id sp < 256 := (hR sp (List.mem_append.mpr (Or.inr (List.mem_cons_of_mem _ hms)))).1.1
    have hne : cp_id x ≠ cp_id sp := (cp_U_cons.mp (cp_U_app.mp hU).2.1).1 sp hms
    have en : (nI (cp_id x)).toNatClampNeg = cp_id x := nI_clamp (by omega)
    have ein : vp_in (nI (cp_id x)) 256 := vp_in_nI hid (by decide)
    have hBl : (pre ++ (x :: t ++ sp :: rest)).length ≤ 255 := by have := hB.1.2.2.2.2.2.2.2.2.2.2.2.2; have := hB.1.2.2.2.2.2.2.1; have := hB.1.2.2.2.2.2.2.2.2.1; omega
    have hU' : cp_U (pre ++ (t ++ sp :: rest)) := cp_pw_skip hU
    rw [show cp_hx (x :: t ++ sp :: rest) (-1) = nI (cp_id x) from rfl]
    refine br_f (nI_ge (b := 256) (by omega) (by decide)) (br_f (nI_pos (by omega)) (br_f (fun e => hne ((nI_eq (by omega) (by omega)).mp e)) (And.intro ein ?_)))
    rw [en]
    refine nm_e (And.intro ein ?_)
    rw [hk, cp_nar0]
    have hnx : a_nextOf (cp_id x) = cp_hx (t ++ sp :: rest) (-1) := hN.1
    have go : ∀ hd' tl' pv' nx' src' sz' hp' qd', cp_CI hd' tl' pv' nx' src' qd' a_baseValue (pre ++ (t ++ sp :: rest)) → cp_H sz' hp' qd' a_labelOf → (∀ n, qd' n ≠ 0 → qd n ≠ 0 ∨ ∃ y ∈ t ++ sp :: rest, cp_id y = n ∧ cp_k y = 1) →
        wX_discardUntil_12 post (nI (cp_id sp)) m (cp_hx (t ++ sp :: rest) (-1)) (nI (hops + 1)) f_cells f_functions f_limit f_status f_freeCount f_first f_size sz' f_depth f_cur f_inserted f_overflowed a_bodySizes a_opAt a_aAt a_bAt a_baseValue a_settledValue a_outputValue a_changedMark hd' tl' a_kindOf a_subjectOf a_valueOf a_labelOf a_nextOf a_ownerOf a_leaveOf a_pcOf a_snapshot pv' nx' src' (upd al (cp_id x) 0) qd' a_free a_nodeAt a_indexOf hp' a_frameEnter a_framePc a_frameZone a_frameWait a_frameRegs := by
      intro hd' tl' pv' nx' src' sz' hp' qd' k1 k2 k3
      exact ih m (hops + 1) _ _ _ _ _ _ _ _ _ (by omega) (by omega) (cp_B_drop hB k2 k3) k1 hN.2 K
    have hun : cp_k x = 1 ∨ cp_k x = 2 → wX_discardUntil_55 post (wX_discardUntil_12 post (nI (cp_id sp)) m) (nI (cp_id sp)) (nI (cp_id x)) (nI hops) f_cells f_functions f_limit f_status f_freeCount f_first f_size sz f_depth f_cur f_inserted f_overflowed a_bodySizes a_opAt a_aAt a_bAt a_baseValue a_settledValue a_outputValue a_changedMark hd tl a_kindOf a_subjectOf a_valueOf a_labelOf a_nextOf a_ownerOf a_leaveOf a_pcOf a_snapshot pv nx src (upd al (cp_id x) 0) qd a_free a_nodeAt a_indexOf hp a_frameEnter a_framePc a_frameZone a_frameWait a_frameRegs := by
      intro hacc
      unfold wX_discardUntil_55
      refine cp_unlinkA (p := pre) (q := t ++ sp :: rest) hacc hBl (fun y hy => (hR y hy).1) hU hI hB.2.2.2.2.1 ?_
      intro hd' tl' pv' nx' src' sz' hp' qd' k1 k2 k3 k4
      refine And.intro ein ?_
      rw [en]
      exact nm_r hnx (nm_r (nI_1 _) (go hd' tl' pv' nx' src' sz' hp' qd' k1 k2 k4))
    refine br_c (fun h1 => hun (Or.inl h1)) (fun h1 => And.intro ein (br_c (fun h2 => hun (Or.inr h2)) (fun h2 => And.intro ein ?_)))
    refine nm_r hnx (nm_r (nI_1 _) (go hd tl pv nx src sz hp qd ?_ hB.2.2.2.2.1 (fun n h => Or.inl h)))
    exact (cp_CI_skip (p := pre) (q := t ++ sp :: rest) (fun z => z.elim h1 h2)).mp hI
theorem cp_Nx_cut {nx : Nat → Int32} {p0 O rest : List cp_N} {z sp : cp_N} (hU : cp_U (p0 ++ [z] ++ (O ++ sp :: rest))) (hN : cp_Nx nx (p0 ++ [z] ++ (O ++ sp :: rest)) (-1)) : cp_Nx (upd nx (cp_id z) (nI (cp_id sp))) (p0 ++ [z] ++ (sp :: rest)) (-1) := by
  obtain ⟨n1, n2⟩ := (cp_Nx_app _ _ _).mp hN
  obtain ⟨n3, n4⟩ := (cp_Nx_app _ _ _).mp n1
  obtain ⟨_, n5⟩ := (cp_Nx_app _ _ _).mp n2
  obtain ⟨u1, u2, u3⟩ := cp_U_app.mp hU
  have u4 := (cp_U_app.mp u1).2.2
  have hzm : z ∈ p0 ++ [z] := List.mem_append.mpr (Or.inr List.mem_cons_self)
  refine (cp_Nx_app _ _ _).mpr ⟨(cp_Nx_app _ _ _).mpr ⟨?_, ?_, trivial⟩, ?_⟩
  · exact cp_Nx_fr _ _ (fun g hg => pk_un (fun e => u4 g hg z List.mem_cons_self e)) n3
  · rw [pk_us]; rfl
  · exact cp_Nx_fr _ _ (fun g hg => pk_un (fun e => u3 z hzm g (List.mem_append.mpr (Or.inr hg)) e.symm)) n5
theorem cp_discard {post : SX → Prop} {cN fN lN ins fc : Nat} {p0 O rest : List cp_N} {z sp : cp_N} (hcur : f_cur = nI (cp_id z))
    (hB : cp_B cN fN lN ins fc (p0 ++ [z]) (O ++ sp :: rest) f_cells f_functions f_limit f_inserted f_freeCount f_heapSize a_kindOf a_subjectOf a_valueOf a_labelOf a_ownerOf a_leaveOf a_pcOf a_snapshot a_alive a_queued a_free a_heap) (hI : cp_CI a_cellHead a_cellTail a_cellPrev a_cellNext a_sourceOf a_queued a_baseValue (p0 ++ [z] ++ (O ++ sp :: rest))) (hN : cp_Nx a_nextOf (p0 ++ [z] ++ (O ++ sp :: rest)) (-1))
    (K : ∀ al' hd' tl' pv' nx' src' sz' hp' qd', cp_B cN fN lN ins fc (p0 ++ [z]) (sp :: rest) f_cells f_functions f_limit f_inserted f_freeCount sz' a_kindOf a_subjectOf a_valueOf a_labelOf a_ownerOf a_leaveOf a_pcOf a_snapshot al' qd' a_free hp' →
        cp_CI hd' tl' pv' nx' src' qd' a_baseValue (p0 ++ [z] ++ (sp :: rest)) → cp_Nx (upd a_nextOf (cp_id z) (nI (cp_id sp))) (p0 ++ [z] ++ (sp :: rest)) (-1) →
        post (f_cells, f_functions, f_limit, f_status, f_freeCount, f_first, f_size, sz', f_depth, f_cur, f_inserted, f_overflowed, a_bodySizes, a_opAt, a_aAt, a_bAt, a_baseValue, a_settledValue, a_outputValue, a_changedMark, hd', tl', a_kindOf, a_subjectOf, a_valueOf, a_labelOf, upd a_nextOf (cp_id z) (nI (cp_id sp)), a_ownerOf, a_leaveOf, a_pcOf, a_snapshot, pv', nx', src', al', qd', a_free, a_nodeAt, a_indexOf, hp', a_frameEnter, a_framePc, a_frameZone, a_frameWait, a_frameRegs)) :
    wpX_discardUntil post (f_cells, f_functions, f_limit, f_status, f_freeCount, f_first, f_size, f_heapSize, f_depth, f_cur, f_inserted, f_overflowed, a_bodySizes, a_opAt, a_aAt, a_bAt, a_baseValue, a_settledValue, a_outputValue, a_changedMark, a_cellHead, a_cellTail, a_kindOf, a_subjectOf, a_valueOf, a_labelOf, a_nextOf, a_ownerOf, a_leaveOf, a_pcOf, a_snapshot, a_cellPrev, a_cellNext, a_sourceOf, a_alive, a_queued, a_free, a_nodeAt, a_indexOf, a_heap, a_frameEnter, a_framePc, a_frameZone, a_frameWait, a_frameRegs) (nI (cp_id sp)) := by
  have hzm : z ∈ p0 ++ [z] ++ (O ++ sp :: rest) := List.mem_append.mpr (Or.inl (List.mem_append.mpr (Or.inr List.mem_cons_self)))
  have hz : cp_id z < 256 := (hB.2.1 z hzm).1.1
  have hlen : O.length ≤ 255 := by
    have h1 := hB.1.2.2.2.2.2.2.2.2.2.2.2.2; have h2 := hB.1.2.2.2.2.2.2.1; have h3 := hB.1.2.2.2.2.2.2.2.2.1
    have h4 : (p0 ++ [z] ++ (O ++ sp :: rest)).length = p0.length + 1 + (O.length + (rest.length + 1)) := by simp; omega
    omega
  refine And.intro (by rw [hcur]; exact vp_in_nI hz (by decide)) ?_
  rw [show f_cur.toNatClampNeg = cp_id z by rw [hcur]; exact nI_clamp (by omega)]
  obtain ⟨n1, n2⟩ := (cp_Nx_app _ _ _).mp hN
  have n4 : a_nextOf (cp_id z) = cp_hx (O ++ sp :: rest) (-1) := ((cp_Nx_app _ _ _).mp n1).2.1
  refine nm_r n4 ⟨O.length + 1, ?_⟩
  refine cp_discard_loop hz hcur O (O.length + 1) 0 _ _ _ _ _ _ _ _ _ (by omega) (by omega) hB hI n2 ?_
  intro al' hd' tl' pv' nx' src' sz' hp' qd' k1 k2
  exact K al' hd' tl' pv' nx' src' sz' hp' qd' k1 k2 (cp_Nx_cut (cp_Lb_U hB.2.2.1) hN)
theorem cp_find_loop {post : Int32 → Prop} {fn : Nat} {arg : Int32} {zn : cp_N} {rest : List cp_N} (hfn : fn < 256) (hz : cp_id zn < 256) (K1 : post (-1)) :
    ∀ (O : List cp_N) (m hops : Nat), O.length < m → O.length + hops ≤ 255 → (∀ x ∈ O, cp_R0 a_kindOf a_subjectOf a_valueOf x ∧ cp_id x ≠ cp_id zn ∧ (cp_k x = 0 → cp_s x < 256)) → cp_Nx a_nextOf O (nI (cp_id zn)) →
      (∀ O1 g O2, O = O1 ++ g :: O2 → cp_k g = 0 → cp_s g = fn → cp_v g = arg → post (nI (cp_id g))) →
      wX_findOld_27 post (nI fn) arg (nI (cp_id zn)) f_cells f_functions f_limit f_status f_freeCount f_first f_size f_heapSize f_depth f_cur f_inserted f_overflowed a_bodySizes a_opAt a_aAt a_bAt a_baseValue a_settledValue a_outputValue a_changedMark a_cellHead a_cellTail a_kindOf a_subjectOf a_valueOf a_labelOf a_nextOf a_ownerOf a_leaveOf a_pcOf a_snapshot a_cellPrev a_cellNext a_sourceOf a_alive a_queued a_free a_nodeAt a_indexOf a_heap a_frameEnter a_framePc a_frameZone a_frameWait a_frameRegs m (cp_hx O (nI (cp_id zn))) (nI hops) := by
  intro O
  induction O with
  | nil =>
    intro m hops hm hh hR hN K2
    obtain ⟨m, rfl⟩ : ∃ m', m = m' + 1 := ⟨m - 1, by have : ([] : List cp_N).length = 0 := rfl; omega⟩
    have hh' : hops ≤ 255 := by have : ([] : List cp_N).length = 0 := rfl; omega
    exact br_f (nI_ge (b := 256) (by omega) (by decide)) (br_f (nI_pos (by omega)) (br_t rfl K1))
  | cons x t ih =>
    intro m hops hm hh hR hN K2
    have hlen : (x :: t).length = t.length + 1 := rfl
    obtain ⟨m, rfl⟩ : ∃ m', m = m' + 1 := ⟨m - 1, by omega⟩
    obtain ⟨⟨hid, hk, hsb, hvl, _⟩, hne, hsl⟩ := hR x List.mem_cons_self
    have en : (nI (cp_id x)).toNatClampNeg = cp_id x := nI_clamp (by omega)
    have ein : vp_in (nI (cp_id x)) 256 := vp_in_nI hid (by decide)
    have next : wX_findOld_27 post (nI fn) arg (nI (cp_id zn)) f_cells f_functions f_limit f_status f_freeCount f_first f_size f_heapSize f_depth f_cur f_inserted f_overflowed a_bodySizes a_opAt a_aAt a_bAt a_baseValue a_settledValue a_outputValue a_changedMark a_cellHead a_cellTail a_kindOf a_subjectOf a_valueOf a_labelOf a_nextOf a_ownerOf a_leaveOf a_pcOf a_snapshot a_cellPrev a_cellNext a_sourceOf a_alive a_queued a_free a_nodeAt a_indexOf a_heap a_frameEnter a_framePc a_frameZone a_frameWait a_frameRegs m (cp_hx t (nI (cp_id zn))) (nI (hops + 1)) :=
      ih m (hops + 1) (by omega) (by omega) (fun y hy => hR y (List.mem_cons_of_mem _ hy)) hN.2 (fun O1 g O2 e => K2 (x :: O1) g O2 (by rw [e]; rfl))
    rw [show cp_hx (x :: t) (nI (cp_id zn)) = nI (cp_id x) from rfl]
    refine br_f (nI_ge (b := 256) (by omega) (by decide)) (br_f (nI_pos (by omega)) (br_f (fun e => hne ((nI_eq (by omega) (by omega)).mp e)) (And.intro ein ?_)))
    rw [en, hk, hsb, hvl]
    refine br_c (fun h0 => ⟨ein, br_c (fun h1 => ⟨ein, br_c (fun h2 => ?_) (fun h2 => ⟨ein, ?_⟩)⟩) (fun h1 => ⟨ein, ?_⟩)⟩) (fun h0 => ⟨ein, ?_⟩)
    · exact K2 [] x t rfl h0 ((nI_eq (by have := hsl h0; omega) (by omega)).mp h1) h2
    · exact nm_r hN.1 (nm_r (nI_1 _) next)
    · exact nm_r hN.1 (nm_r (nI_1 _) next)
    · exact nm_r hN.1 (nm_r (nI_1 _) next)
end
end
section
/-! ===== nextStale ===== -/
theorem cp_SQ_iff {qd : Nat → Int32} : ∀ (s : Int32) (l : List cp_N), cp_SQ qd s l ↔ ∀ a g b, l = a ++ g :: b → cp_k g = 1 → cp_v g ≠ cp_cv s a → qd (cp_id g) ≠ 0
  | s, [] => ⟨fun _ a g b e => (by cases a <;> cases e), fun _ => trivial⟩
  | s, x :: t => by
    have ih := cp_SQ_iff (qd := qd) (if cp_k x = 2 then cp_v x else s) t
    constructor
    · rintro ⟨h1, h2⟩ a g b e k hv
      cases a with
      | nil =>
        obtain ⟨rfl, _⟩ := List.cons.inj e
        exact h1 k hv
      | cons y a' =>
        obtain ⟨rfl, e'⟩ := List.cons.inj e
        exact ih.mp h2 a' g b e' k hv
    · intro h
      exact ⟨fun k hv => h [] x t rfl k hv, ih.mpr (fun a g b e k hv => h (x :: a) g b (by rw [e]; rfl) k hv)⟩
theorem cp_split_uniq : ∀ {a a' b b' : List cp_N} {g : cp_N}, cp_U (a ++ g :: b) → a ++ g :: b = a' ++ g :: b' → a = a'
  | [], [], _, _, _, _, _ => rfl
  | [], y :: a', b, b', g, hU, e => by
    obtain ⟨rfl, e'⟩ := List.cons.inj e
    have e'' : b = a' ++ g :: b' := e'
    subst e''
    exact absurd rfl ((cp_U_cons.mp hU).1 g (List.mem_append.mpr (Or.inr List.mem_cons_self)))
  | x :: a, [], b, b', g, hU, e => by
    obtain ⟨rfl, e'⟩ := List.cons.inj e
    exact absurd rfl ((cp_U_cons.mp hU).1 x (List.mem_append.mpr (Or.inr List.mem_cons_self)))
  | x :: a, y :: a', b, b', g, hU, e => by
    obtain ⟨rfl, e'⟩ := List.cons.inj e
    rw [cp_split_uniq (cp_U_cons.mp hU).2 e']
theorem cp_So_at {src : Nat → Int32} {w : Int32} {a b : List cp_N} {g : cp_N} (h : cp_So src w (a ++ g :: b)) : src (cp_id g) = cp_lw w a := ((cp_So_app _ _ _).mp h).2.1
theorem cp_fl_split {L : List cp_N} {g : cp_N} (hg : g ∈ L) (hk : cp_k g = 1 ∨ cp_k g = 2) : ∃ a b, cp_fl (cp_s g) L = a ++ g :: b :=
  List.append_of_mem (List.mem_filter.mpr ⟨hg, cp_A_iff.mpr ⟨hk, rfl⟩⟩)
section
variable {f_cells f_functions f_limit f_status f_freeCount f_first f_size f_heapSize f_depth f_cur f_inserted f_overflowed : Int32} {a_bodySizes a_opAt a_aAt a_bAt a_baseValue a_settledValue a_outputValue a_changedMark a_cellHead a_cellTail a_kindOf a_subjectOf a_valueOf a_labelOf a_nextOf a_ownerOf a_leaveOf a_pcOf a_snapshot a_cellPrev a_cellNext a_sourceOf a_alive a_queued a_free a_nodeAt a_indexOf a_heap a_frameEnter a_framePc a_frameZone a_frameWait a_frameRegs : Nat → Int32}
theorem cp_B_q {cN fN lN ins fc : Nat} {pre Q : List cp_N} {sz' : Int32} {hp' qd' : Nat → Int32} (hB : cp_B cN fN lN ins fc pre Q f_cells f_functions f_limit f_inserted f_freeCount f_heapSize a_kindOf a_subjectOf a_valueOf a_labelOf a_ownerOf a_leaveOf a_pcOf a_snapshot a_alive a_queued a_free a_heap) (hH : cp_H sz' hp' qd' a_labelOf) (hq : ∀ n, qd' n ≠ 0 → a_queued n ≠ 0) :
    cp_B cN fN lN ins fc pre Q f_cells f_functions f_limit f_inserted f_freeCount sz' a_kindOf a_subjectOf a_valueOf a_labelOf a_ownerOf a_leaveOf a_pcOf a_snapshot a_alive qd' a_free hp' := by
  obtain ⟨n0, hR, hL, hLc, _, hqk, hA, ⟨hF1, hF2⟩, hLq⟩ := hB
  refine ⟨n0, hR, hL, hLc, hH, fun g hg h => hqk g hg (hq _ h), hA, ⟨fun i hi => ?_, hF2⟩, fun n hn h => hLq n hn (hq n h)⟩
  obtain ⟨n, hn, e, hqn, hno⟩ := hF1 i hi
  refine ⟨n, hn, e, ?_, hno⟩
  by_cases h : qd' n = 0
  · exact h
  · exact absurd hqn (hq n h)
/-- the governing value of a linked access -/
theorem cp_gov {post : Int32 → Prop} {cN fN : Nat} {lvv pcc snn oww qd : Nat → Int32} {L a b : List cp_N} {g : cp_N} (hk : cp_k g = 1 ∨ cp_k g = 2) (hg : g ∈ L) (hR : ∀ x ∈ L, cp_R a_kindOf a_subjectOf a_valueOf oww lvv pcc snn cN fN x)
    (hI : cp_CI a_cellHead a_cellTail a_cellPrev a_cellNext a_sourceOf qd a_baseValue L) (e : cp_fl (cp_s g) L = a ++ g :: b) (K : post (cp_cv (a_baseValue (cp_s g)) a)) : wpX_governing post (f_cells, f_functions, f_limit, f_status, f_freeCount, f_first, f_size, f_heapSize, f_depth, f_cur, f_inserted, f_overflowed, a_bodySizes, a_opAt, a_aAt, a_bAt, a_baseValue, a_settledValue, a_outputValue, a_changedMark, a_cellHead, a_cellTail, a_kindOf, a_subjectOf, a_valueOf, a_labelOf, a_nextOf, a_ownerOf, a_leaveOf, a_pcOf, a_snapshot, a_cellPrev, a_cellNext, a_sourceOf, a_alive, a_queued, a_free, a_nodeAt, a_indexOf, a_heap, a_frameEnter, a_framePc, a_frameZone, a_frameWait, a_frameRegs) (nI (cp_id g)) := by
  obtain ⟨⟨hid, hkd, hsb, hvl, hs16⟩, _⟩ := hR g hg
  have hS := (hI (cp_s g) (hs16 hk)).2.1
  rw [e] at hS
  have hsrc := cp_So_at hS
  have hRa : ∀ x ∈ a, cp_id x < 256 ∧ a_valueOf (cp_id x) = cp_v x := fun x hx => by
    have hx' : x ∈ cp_fl (cp_s g) L := by rw [e]; exact List.mem_append.mpr (Or.inl hx)
    have := (hR x (cp_fl_mem hx').1).1
    exact ⟨this.1, this.2.2.2.1⟩
  refine cp_governing (c := cp_s g) hid ?_ (Or.inr ⟨hsb, hs16 hk⟩) ?_
  · rw [hsrc]; exact cp_ok_lw _ _ (Or.inl rfl) (fun x hx => (hRa x hx).1)
  · rw [hsrc, cp_gv_cv hRa]; exact K
/-- what is stale in L -/
def cp_St (base : Nat → Int32) (L : List cp_N) (g : cp_N) : Prop := g ∈ L ∧ cp_k g = 1 ∧ ∃ a b, cp_fl (cp_s g) L = a ++ g :: b ∧ cp_v g ≠ cp_cv (base (cp_s g)) a
theorem cp_next_loop {post : Int32 → SX → Prop} {cN fN lN ins fc : Nat} {pre Q : List cp_N} {bd : Int32}
    (K1 : ∀ sz' hp' qd', cp_B cN fN lN ins fc pre Q f_cells f_functions f_limit f_inserted f_freeCount sz' a_kindOf a_subjectOf a_valueOf a_labelOf a_ownerOf a_leaveOf a_pcOf a_snapshot a_alive qd' a_free hp' → cp_CI a_cellHead a_cellTail a_cellPrev a_cellNext a_sourceOf qd' a_baseValue (pre ++ Q) →
      (∀ g, cp_St a_baseValue (pre ++ Q) g → bd.toInt ≤ (a_labelOf (cp_id g)).toInt) → (bd = 1073741824 → sz' = 0) → post (-1) (f_cells, f_functions, f_limit, f_status, f_freeCount, f_first, f_size, sz', f_depth, f_cur, f_inserted, f_overflowed, a_bodySizes, a_opAt, a_aAt, a_bAt, a_baseValue, a_settledValue, a_outputValue, a_changedMark, a_cellHead, a_cellTail, a_kindOf, a_subjectOf, a_valueOf, a_labelOf, a_nextOf, a_ownerOf, a_leaveOf, a_pcOf, a_snapshot, a_cellPrev, a_cellNext, a_sourceOf, a_alive, qd', a_free, a_nodeAt, a_indexOf, hp', a_frameEnter, a_framePc, a_frameZone, a_frameWait, a_frameRegs))
    (K2 : ∀ g sz' hp' qd0, cp_B cN fN lN ins fc pre Q f_cells f_functions f_limit f_inserted f_freeCount sz' a_kindOf a_subjectOf a_valueOf a_labelOf a_ownerOf a_leaveOf a_pcOf a_snapshot a_alive (upd qd0 (cp_id g) 0) a_free hp' → cp_CI a_cellHead a_cellTail a_cellPrev a_cellNext a_sourceOf qd0 a_baseValue (pre ++ Q) →
      cp_St a_baseValue (pre ++ Q) g → (a_labelOf (cp_id g)).toInt < bd.toInt → (∀ g', cp_St a_baseValue (pre ++ Q) g' → (a_labelOf (cp_id g)).toInt ≤ (a_labelOf (cp_id g')).toInt) → post (nI (cp_id g)) (f_cells, f_functions, f_limit, f_status, f_freeCount, f_first, f_size, sz', f_depth, f_cur, f_inserted, f_overflowed, a_bodySizes, a_opAt, a_aAt, a_bAt, a_baseValue, a_settledValue, a_outputValue, a_changedMark, a_cellHead, a_cellTail, a_kindOf, a_subjectOf, a_valueOf, a_labelOf, a_nextOf, a_ownerOf, a_leaveOf, a_pcOf, a_snapshot, a_cellPrev, a_cellNext, a_sourceOf, a_alive, upd qd0 (cp_id g) 0, a_free, a_nodeAt, a_indexOf, hp', a_frameEnter, a_framePc, a_frameZone, a_frameWait, a_frameRegs)) :
    ∀ (hs m tries : Nat) (hp qd : Nat → Int32), hs < m → hs + tries ≤ 256 → cp_HB hs hp qd → cp_HO hs hp a_labelOf →
      cp_B cN fN lN ins fc pre Q f_cells f_functions f_limit f_inserted f_freeCount (nI hs) a_kindOf a_subjectOf a_valueOf a_labelOf a_ownerOf a_leaveOf a_pcOf a_snapshot a_alive qd a_free hp → cp_CI a_cellHead a_cellTail a_cellPrev a_cellNext a_sourceOf qd a_baseValue (pre ++ Q) →
      wX_nextStale_2 post bd m (nI tries) f_cells f_functions f_limit f_status f_freeCount f_first f_size (nI hs) f_depth f_cur f_inserted f_overflowed a_bodySizes a_opAt a_aAt a_bAt a_baseValue a_settledValue a_outputValue a_changedMark a_cellHead a_cellTail a_kindOf a_subjectOf a_valueOf a_labelOf a_nextOf a_ownerOf a_leaveOf a_pcOf a_snapshot a_cellPrev a_cellNext a_sourceOf a_alive qd a_free a_nodeAt a_indexOf hp a_frameEnter a_framePc a_frameZone a_frameWait a_frameRegs := by
  -- a stale read is queued, so it is in the heap
  have inheap : ∀ hs hp qd, cp_HB hs hp qd → cp_CI a_cellHead a_cellTail a_cellPrev a_cellNext a_sourceOf qd a_baseValue (pre ++ Q) → (∀ x ∈ pre ++ Q, cp_R a_kindOf a_subjectOf a_valueOf a_ownerOf a_leaveOf a_pcOf a_snapshot cN fN x) → ∀ g, cp_St a_baseValue (pre ++ Q) g → ∃ i, i < hs ∧ hp i = nI (cp_id g) := by
    intro hs hp qd hB hI hR g hg
    obtain ⟨hm, hk, a, b, e, hv⟩ := hg
    obtain ⟨⟨hid, _, _, _, hs16⟩, _⟩ := hR g hm
    have hQ := (hI (cp_s g) (hs16 (Or.inl hk))).2.2
    exact hB.2.2 _ hid ((cp_SQ_iff _ _).mp hQ a g b e hk hv)
  intro hs
  induction hs with
  | zero =>
    intro m tries hp qd hm ht hHB hHO hB hI
    obtain ⟨m, rfl⟩ : ∃ m', m = m' + 1 := ⟨m - 1, by omega⟩
    have K1' := K1 0 hp qd hB hI (fun g hg => by obtain ⟨i, hi, _⟩ := inheap 0 hp qd hHB hI hB.2.1 g hg; omega) (fun _ => rfl)
    refine br_c (fun _ => K1') (fun _ => br_t (by decide) K1')
  | succ hs ih =>
    intro m tries hp qd hm ht hHB hHO hB hI
    obtain ⟨m, rfl⟩ : ∃ m', m = m' + 1 := ⟨m - 1, by omega⟩
    have h256 := cp_HB_le hHB
    obtain ⟨tp, htp, e0, hqtp⟩ := hHB.1 0 (by omega)
    have en : (nI tp).toNatClampNeg = tp := nI_clamp (by omega)
    have ein : vp_in (nI tp) 256 := vp_in_nI htp (by decide)
    have htop : ∀ g, cp_St a_baseValue (pre ++ Q) g → (a_labelOf tp).toInt ≤ (a_labelOf (cp_id g)).toInt := by
      intro g hg
      obtain ⟨i, hi, e⟩ := inheap _ hp qd hHB hI hB.2.1 g hg
      have := cp_HO_top hHO i hi
      unfold cp_lb at this
      rw [e0, e, en, nI_clamp (by have := (hB.2.1 g hg.1).1.1; omega)] at this
      exact this
    refine br_f (nI_ge (b := 256) (by omega) (by decide)) (br_f (nI_nle (by omega) (by omega)) (nm_r e0 (And.intro ein ?_)))
    rw [en]
    refine br_c (fun hlt => ?_) (fun hlt => ?_)
    · rw [Int32.lt_iff_toInt_lt] at hlt
      refine cp_popHeap (hs := hs) rfl htp e0 hHB hHO ?_
      intro hp' hHB' hHO'
      have hB' := cp_B_q hB (sz' := nI hs) (hp' := hp') (qd' := upd qd tp 0) ⟨hs, rfl, hHB', hHO'⟩ (fun n h => by
        by_cases e : n = tp
        · rw [e, pk_us] at h; exact absurd rfl h
        · rw [pk_un e] at h; exact h)
      -- the invariant stays if the popped one is not stale
      have hkeep : (∀ g, cp_St a_baseValue (pre ++ Q) g → cp_id g ≠ tp) → cp_CI a_cellHead a_cellTail a_cellPrev a_cellNext a_sourceOf (upd qd tp 0) a_baseValue (pre ++ Q) := by
        intro hns c hc
        obtain ⟨d1, d2, d3⟩ := hI c hc
        refine ⟨d1, d2, (cp_SQ_iff _ _).mpr (fun a g b e k hv => ?_)⟩
        have hgm : g ∈ cp_fl c (pre ++ Q) := by rw [e]; exact List.mem_append.mpr (Or.inr List.mem_cons_self)
        have hgc := cp_fl_mem hgm
        have hst : cp_St a_baseValue (pre ++ Q) g := ⟨hgc.1, k, a, b, by rw [hgc.2.2]; exact e, by rw [hgc.2.2]; exact hv⟩
        rw [pk_un (hns g hst)]
        exact (cp_SQ_iff _ _).mp d3 a g b e k hv
      refine And.intro ein ?_
      refine br_c (fun hal => ?_) (fun hal => ?_)
      · refine nm_r (nI_1 _) ?_
        refine ih m (tries + 1) hp' _ (by omega) (by omega) hHB' hHO' hB' (hkeep (fun g hg e => ?_))
        have := (hB.2.2.2.2.2.2.1 tp htp).mpr ⟨g, hg.1, e⟩
        exact this hal
      · obtain ⟨g, hgm, rfl⟩ := (hB.2.2.2.2.2.2.1 tp htp).mp hal
        have hgk : cp_k g = 1 := hB.2.2.2.2.2.1 g hgm hqtp
        obtain ⟨a, b, e⟩ := cp_fl_split hgm (Or.inl hgk)
        have hvl := (hB.2.1 g hgm).1.2.2.2.1
        refine cp_gov (Or.inl hgk) hgm hB.2.1 hI e ?_
        refine And.intro ein ?_
        rw [hvl]
        refine br_c (fun hv => nm_r (nI_1 _) ?_) (fun hv => ?_)
        · refine ih m (tries + 1) hp' _ (by omega) (by omega) hHB' hHO' hB' (hkeep (fun g' hg' e' => ?_))
          have := cp_U_inj (cp_Lb_U hB.2.2.1) hg'.1 hgm e'
          subst this
          obtain ⟨_, _, a', b', e2, hv'⟩ := hg'
          have hUf := cp_U_fl (c := cp_s g') (cp_Lb_U hB.2.2.1)
          have : a' = a := by
            rw [e] at e2 hUf
            exact (cp_split_uniq hUf e2).symm
          rw [this] at hv'
          exact hv' hv
        · refine K2 g _ _ qd ?_ hI ⟨hgm, hgk, a, b, e, hv⟩ ?_ (fun g' hg' => ?_)
          · exact hB'
          · exact hlt
          · exact htop g' hg'
    · have hlq := hB.2.2.2.2.2.2.2.2
      rw [Int32.lt_iff_toInt_lt] at hlt
      refine K1 _ _ _ hB hI (fun g hg => ?_) (fun e => ?_)
      · have := htop g hg; omega
      · have := hlq tp htp hqtp
        rw [e, show (1073741824 : Int32).toInt = 1073741824 by decide] at hlt
        omega
theorem cp_nextStale {post : Int32 → SX → Prop} {cN fN lN ins fc : Nat} {pre Q : List cp_N} {bd : Int32} (hB : cp_B cN fN lN ins fc pre Q f_cells f_functions f_limit f_inserted f_freeCount f_heapSize a_kindOf a_subjectOf a_valueOf a_labelOf a_ownerOf a_leaveOf a_pcOf a_snapshot a_alive a_queued a_free a_heap) (hI : cp_CI a_cellHead a_cellTail a_cellPrev a_cellNext a_sourceOf a_queued a_baseValue (pre ++ Q))
    (K1 : ∀ sz' hp' qd', cp_B cN fN lN ins fc pre Q f_cells f_functions f_limit f_inserted f_freeCount sz' a_kindOf a_subjectOf a_valueOf a_labelOf a_ownerOf a_leaveOf a_pcOf a_snapshot a_alive qd' a_free hp' → cp_CI a_cellHead a_cellTail a_cellPrev a_cellNext a_sourceOf qd' a_baseValue (pre ++ Q) →
      (∀ g, cp_St a_baseValue (pre ++ Q) g → bd.toInt ≤ (a_labelOf (cp_id g)).toInt) → (bd = 1073741824 → sz' = 0) → post (-1) (f_cells, f_functions, f_limit, f_status, f_freeCount, f_first, f_size, sz', f_depth, f_cur, f_inserted, f_overflowed, a_bodySizes, a_opAt, a_aAt, a_bAt, a_baseValue, a_settledValue, a_outputValue, a_changedMark, a_cellHead, a_cellTail, a_kindOf, a_subjectOf, a_valueOf, a_labelOf, a_nextOf, a_ownerOf, a_leaveOf, a_pcOf, a_snapshot, a_cellPrev, a_cellNext, a_sourceOf, a_alive, qd', a_free, a_nodeAt, a_indexOf, hp', a_frameEnter, a_framePc, a_frameZone, a_frameWait, a_frameRegs))
    (K2 : ∀ g sz' hp' qd0, cp_B cN fN lN ins fc pre Q f_cells f_functions f_limit f_inserted f_freeCount sz' a_kindOf a_subjectOf a_valueOf a_labelOf a_ownerOf a_leaveOf a_pcOf a_snapshot a_alive (upd qd0 (cp_id g) 0) a_free hp' → cp_CI a_cellHead a_cellTail a_cellPrev a_cellNext a_sourceOf qd0 a_baseValue (pre ++ Q) →
      cp_St a_baseValue (pre ++ Q) g → (a_labelOf (cp_id g)).toInt < bd.toInt → (∀ g', cp_St a_baseValue (pre ++ Q) g' → (a_labelOf (cp_id g)).toInt ≤ (a_labelOf (cp_id g')).toInt) → post (nI (cp_id g)) (f_cells, f_functions, f_limit, f_status, f_freeCount, f_first, f_size, sz', f_depth, f_cur, f_inserted, f_overflowed, a_bodySizes, a_opAt, a_aAt, a_bAt, a_baseValue, a_settledValue, a_outputValue, a_changedMark, a_cellHead, a_cellTail, a_kindOf, a_subjectOf, a_valueOf, a_labelOf, a_nextOf, a_ownerOf, a_leaveOf, a_pcOf, a_snapshot, a_cellPrev, a_cellNext, a_sourceOf, a_alive, upd qd0 (cp_id g) 0, a_free, a_nodeAt, a_indexOf, hp', a_frameEnter, a_framePc, a_frameZone, a_frameWait, a_frameRegs)) :
    wpX_nextStale post (f_cells, f_functions, f_limit, f_status, f_freeCount, f_first, f_size, f_heapSize, f_depth, f_cur, f_inserted, f_overflowed, a_bodySizes, a_opAt, a_aAt, a_bAt, a_baseValue, a_settledValue, a_outputValue, a_changedMark, a_cellHead, a_cellTail, a_kindOf, a_subjectOf, a_valueOf, a_labelOf, a_nextOf, a_ownerOf, a_leaveOf, a_pcOf, a_snapshot, a_cellPrev, a_cellNext, a_sourceOf, a_alive, a_queued, a_free, a_nodeAt, a_indexOf, a_heap, a_frameEnter, a_framePc, a_frameZone, a_frameWait, a_frameRegs) bd := by
  obtain ⟨hs, rfl, hHB, hHO⟩ := hB.2.2.2.2.1
  exact ⟨hs + 1, cp_next_loop K1 K2 hs (hs + 1) 0 a_heap a_queued (by omega) (by have := cp_HB_le hHB; omega) hHB hHO hB hI⟩
end
end
section
/-! ===== append, pushFrame and the copying loops ===== -/
section
variable {f_cells f_functions f_limit f_status f_freeCount f_first f_size f_heapSize f_depth f_cur f_inserted f_overflowed : Int32} {a_bodySizes a_opAt a_aAt a_bAt a_baseValue a_settledValue a_outputValue a_changedMark a_cellHead a_cellTail a_kindOf a_subjectOf a_valueOf a_labelOf a_nextOf a_ownerOf a_leaveOf a_pcOf a_snapshot a_cellPrev a_cellNext a_sourceOf a_alive a_queued a_free a_nodeAt a_indexOf a_heap a_frameEnter a_framePc a_frameZone a_frameWait a_frameRegs : Nat → Int32}
theorem cp_append_full {post : Int32 → SX → Prop} {kd sj vl ow : Int32} (h : f_limit ≤ f_inserted) (K : post (-1) (f_cells, f_functions, f_limit, f_status, f_freeCount, f_first, f_size, f_heapSize, f_depth, f_cur, f_inserted, 1, a_bodySizes, a_opAt, a_aAt, a_bAt, a_baseValue, a_settledValue, a_outputValue, a_changedMark, a_cellHead, a_cellTail, a_kindOf, a_subjectOf, a_valueOf, a_labelOf, a_nextOf, a_ownerOf, a_leaveOf, a_pcOf, a_snapshot, a_cellPrev, a_cellNext, a_sourceOf, a_alive, a_queued, a_free, a_nodeAt, a_indexOf, a_heap, a_frameEnter, a_framePc, a_frameZone, a_frameWait, a_frameRegs)) : wpX_append post (f_cells, f_functions, f_limit, f_status, f_freeCount, f_first, f_size, f_heapSize, f_depth, f_cur, f_inserted, f_overflowed, a_bodySizes, a_opAt, a_aAt, a_bAt, a_baseValue, a_settledValue, a_outputValue, a_changedMark, a_cellHead, a_cellTail, a_kindOf, a_subjectOf, a_valueOf, a_labelOf, a_nextOf, a_ownerOf, a_leaveOf, a_pcOf, a_snapshot, a_cellPrev, a_cellNext, a_sourceOf, a_alive, a_queued, a_free, a_nodeAt, a_indexOf, a_heap, a_frameEnter, a_framePc, a_frameZone, a_frameWait, a_frameRegs) kd sj vl ow := br_t h K
theorem cp_append {post : Int32 → SX → Prop} {fc ins lN n z : Nat} {kd sj vl ow : Int32} (hfc : f_freeCount = nI (fc + 1)) (hf : fc < 256) (hins : f_inserted = nI ins) (hlim : f_limit = nI lN) (hlt : ins < lN) (hlN : lN ≤ 120) (hfr : a_free fc = nI n) (hn : n < 256) (hcur : f_cur = nI z) (hz : z < 256)
    (K : post (nI n) (f_cells, f_functions, f_limit, f_status, nI fc, f_first, f_size, f_heapSize, f_depth, nI n, nI (ins + 1), f_overflowed, a_bodySizes, a_opAt, a_aAt, a_bAt, a_baseValue, a_settledValue, a_outputValue, a_changedMark, a_cellHead, a_cellTail, upd a_kindOf n kd, upd a_subjectOf n sj, upd a_valueOf n vl, upd a_labelOf n (a_labelOf z + 1), upd (upd a_nextOf n (a_nextOf z)) z (nI n), upd a_ownerOf n ow, upd a_leaveOf n (-1), a_pcOf, a_snapshot, a_cellPrev, a_cellNext, a_sourceOf, upd a_alive n 1, upd a_queued n 0, a_free, a_nodeAt, a_indexOf, a_heap, a_frameEnter, a_framePc, a_frameZone, a_frameWait, a_frameRegs)) :
    wpX_append post (f_cells, f_functions, f_limit, f_status, f_freeCount, f_first, f_size, f_heapSize, f_depth, f_cur, f_inserted, f_overflowed, a_bodySizes, a_opAt, a_aAt, a_bAt, a_baseValue, a_settledValue, a_outputValue, a_changedMark, a_cellHead, a_cellTail, a_kindOf, a_subjectOf, a_valueOf, a_labelOf, a_nextOf, a_ownerOf, a_leaveOf, a_pcOf, a_snapshot, a_cellPrev, a_cellNext, a_sourceOf, a_alive, a_queued, a_free, a_nodeAt, a_indexOf, a_heap, a_frameEnter, a_framePc, a_frameZone, a_frameWait, a_frameRegs) kd sj vl ow := by
  subst hfc hins hlim hcur
  have en : (nI n).toNatClampNeg = n := nI_clamp (by omega)
  have ez : (nI z).toNatClampNeg = z := nI_clamp (by omega)
  have ein : vp_in (nI n) 256 := vp_in_nI hn (by decide)
  have inz : vp_in (nI z) 256 := vp_in_nI hz (by decide)
  refine br_f (nI_ge hlt (by omega)) (br_t (nI_lt (a := 0) (by omega) (by omega)) (nm_r (nI_1 _) (nm_r (nI_pred _) ⟨vp_in_nI hf (by decide), ?_⟩)))
  rw [nI_clamp (n := fc) (by omega)]
  refine nm_r hfr ?_
  rw [en, ez, cp_nar0, cp_nar1]
  exact ⟨ein, nm_e ⟨ein, nm_e ⟨ein, nm_e ⟨ein, nm_e ⟨ein, nm_e ⟨ein, nm_e ⟨ein, nm_e (br_t (nI_pos' (by omega)) ⟨inz, ein, nm_e ⟨inz, ein, nm_e ⟨inz, nm_e K⟩⟩⟩)⟩⟩⟩⟩⟩⟩⟩
theorem cp_append0 {post : Int32 → SX → Prop} {fc ins lN n : Nat} {kd sj vl ow : Int32} (hfc : f_freeCount = nI (fc + 1)) (hf : fc < 256) (hins : f_inserted = nI ins) (hlim : f_limit = nI lN) (hlt : ins < lN) (hlN : lN ≤ 120) (hfr : a_free fc = nI n) (hn : n < 256) (hcur : f_cur = -1)
    (K : post (nI n) (f_cells, f_functions, f_limit, f_status, nI fc, nI n, f_size, f_heapSize, f_depth, nI n, nI (ins + 1), f_overflowed, a_bodySizes, a_opAt, a_aAt, a_bAt, a_baseValue, a_settledValue, a_outputValue, a_changedMark, a_cellHead, a_cellTail, upd a_kindOf n kd, upd a_subjectOf n sj, upd a_valueOf n vl, upd a_labelOf n 1, upd a_nextOf n (-1), upd a_ownerOf n ow, upd a_leaveOf n (-1), a_pcOf, a_snapshot, a_cellPrev, a_cellNext, a_sourceOf, upd a_alive n 1, upd a_queued n 0, a_free, a_nodeAt, a_indexOf, a_heap, a_frameEnter, a_framePc, a_frameZone, a_frameWait, a_frameRegs)) :
    wpX_append post (f_cells, f_functions, f_limit, f_status, f_freeCount, f_first, f_size, f_heapSize, f_depth, f_cur, f_inserted, f_overflowed, a_bodySizes, a_opAt, a_aAt, a_bAt, a_baseValue, a_settledValue, a_outputValue, a_changedMark, a_cellHead, a_cellTail, a_kindOf, a_subjectOf, a_valueOf, a_labelOf, a_nextOf, a_ownerOf, a_leaveOf, a_pcOf, a_snapshot, a_cellPrev, a_cellNext, a_sourceOf, a_alive, a_queued, a_free, a_nodeAt, a_indexOf, a_heap, a_frameEnter, a_framePc, a_frameZone, a_frameWait, a_frameRegs) kd sj vl ow := by
  subst hfc hins hlim hcur
  have en : (nI n).toNatClampNeg = n := nI_clamp (by omega)
  have ein : vp_in (nI n) 256 := vp_in_nI hn (by decide)
  refine br_f (nI_ge hlt (by omega)) (br_t (nI_lt (a := 0) (by omega) (by omega)) (nm_r (nI_1 _) (nm_r (nI_pred _) ⟨vp_in_nI hf (by decide), ?_⟩)))
  rw [nI_clamp (n := fc) (by omega)]
  refine nm_r hfr ?_
  rw [en, cp_nar0, cp_nar1]
  exact ⟨ein, nm_e ⟨ein, nm_e ⟨ein, nm_e ⟨ein, nm_e ⟨ein, nm_e ⟨ein, nm_e ⟨ein, nm_e (br_f (by decide) ⟨ein, nm_e ⟨ein, nm_e K⟩⟩)⟩⟩⟩⟩⟩⟩⟩
/-- four writes one behind another -/
theorem cp_push_loop4 {post : Int32 → SX → Prop} {d : Nat} (hd : d < 256) (K : ∀ frg', cp_rg frg' d = (fun _ => 0) → (∀ i, i ≠ d → cp_rg frg' i = cp_rg a_frameRegs i) → post (nI d) (f_cells, f_functions, f_limit, f_status, f_freeCount, f_first, f_size, f_heapSize, f_depth, f_cur, f_inserted, f_overflowed, a_bodySizes, a_opAt, a_aAt, a_bAt, a_baseValue, a_settledValue, a_outputValue, a_changedMark, a_cellHead, a_cellTail, a_kindOf, a_subjectOf, a_valueOf, a_labelOf, a_nextOf, a_ownerOf, a_leaveOf, a_pcOf, a_snapshot, a_cellPrev, a_cellNext, a_sourceOf, a_alive, a_queued, a_free, a_nodeAt, a_indexOf, a_heap, a_frameEnter, a_framePc, a_frameZone, a_frameWait, frg')) :
    ∀ (k r m : Nat) (frg : Nat → Int32), r + k = 4 → k < m → (∀ q, q < r → cp_rg frg d q = 0) → (∀ i, i ≠ d → cp_rg frg i = cp_rg a_frameRegs i) →
      wX_pushFrame_68 post (nI d) f_cells f_functions f_limit f_status f_freeCount f_first f_size f_heapSize f_depth f_cur f_inserted f_overflowed m (nI r) a_bodySizes a_opAt a_aAt a_bAt a_baseValue a_settledValue a_outputValue a_changedMark a_cellHead a_cellTail a_kindOf a_subjectOf a_valueOf a_labelOf a_nextOf a_ownerOf a_leaveOf a_pcOf a_snapshot a_cellPrev a_cellNext a_sourceOf a_alive a_queued a_free a_nodeAt a_indexOf a_heap a_frameEnter a_framePc a_frameZone a_frameWait frg := by
  intro k
  induction k with
  | zero =>
    intro r m frg hr hm h1 h2
    obtain ⟨m, rfl⟩ : ∃ m', m = m' + 1 := ⟨m - 1, by omega⟩
    obtain rfl : r = 4 := by omega
    refine br_t (by decide) (K frg ?_ h2)
    funext q
    by_cases hq : q < 4
    · exact h1 q hq
    · exact if_neg hq
  | succ k ih =>
    intro r m frg hr hm h1 h2
    obtain ⟨m, rfl⟩ : ∃ m', m = m' + 1 := ⟨m - 1, by omega⟩
    have e1 : nI d * 4 + nI r = nI (d * 4 + r) := by
      rw [← nI_add, ← pk_mul]; rfl
    refine br_f (nI_ge (b := 4) (by omega) (by decide)) ?_
    rw [e1, nI_clamp (n := d * 4 + r) (by omega)]
    refine ⟨vp_in_nI (by omega) (by decide), nm_e (nm_r (nI_1 _) ?_)⟩
    refine ih (r + 1) m _ (by omega) (by omega) (fun q hq => ?_) (fun i hi => ?_)
    · rw [cp_rg_upd (by omega)]
      by_cases e : q = r
      · rw [e, pk_us]
      · rw [pk_un e]; exact h1 q (by omega)
    · rw [cp_rg_ne (by omega) hi]; exact h2 i hi
theorem cp_pushFrame {post : Int32 → SX → Prop} {d : Nat} {e pc zn : Int32} (hdp : f_depth = nI d) (hd : d < 256)
    (K : ∀ frg', cp_rg frg' d = (fun _ => 0) → (∀ i, i ≠ d → cp_rg frg' i = cp_rg a_frameRegs i) →
      post (nI d) (f_cells, f_functions, f_limit, f_status, f_freeCount, f_first, f_size, f_heapSize, nI (d + 1), f_cur, f_inserted, f_overflowed, a_bodySizes, a_opAt, a_aAt, a_bAt, a_baseValue, a_settledValue, a_outputValue, a_changedMark, a_cellHead, a_cellTail, a_kindOf, a_subjectOf, a_valueOf, a_labelOf, a_nextOf, a_ownerOf, a_leaveOf, a_pcOf, a_snapshot, a_cellPrev, a_cellNext, a_sourceOf, a_alive, a_queued, a_free, a_nodeAt, a_indexOf, a_heap, upd a_frameEnter d e, upd a_framePc d pc, upd a_frameZone d zn, upd a_frameWait d (-1), frg')) :
    wpX_pushFrame post (f_cells, f_functions, f_limit, f_status, f_freeCount, f_first, f_size, f_heapSize, f_depth, f_cur, f_inserted, f_overflowed, a_bodySizes, a_opAt, a_aAt, a_bAt, a_baseValue, a_settledValue, a_outputValue, a_changedMark, a_cellHead, a_cellTail, a_kindOf, a_subjectOf, a_valueOf, a_labelOf, a_nextOf, a_ownerOf, a_leaveOf, a_pcOf, a_snapshot, a_cellPrev, a_cellNext, a_sourceOf, a_alive, a_queued, a_free, a_nodeAt, a_indexOf, a_heap, a_frameEnter, a_framePc, a_frameZone, a_frameWait, a_frameRegs) e pc zn := by
  subst hdp
  have ed : (nI d).toNatClampNeg = d := nI_clamp (by omega)
  have ind : vp_in (nI d) 256 := vp_in_nI hd (by decide)
  refine br_t (nI_lt (b := 256) hd (by decide)) (nm_r (nI_1 _) ?_)
  rw [ed]
  refine ⟨ind, nm_e ⟨ind, nm_e ⟨ind, nm_e ⟨ind, nm_e ⟨5, ?_⟩⟩⟩⟩⟩
  exact cp_push_loop4 hd K 4 0 5 a_frameRegs rfl (by omega) (fun q hq => by omega) (fun _ _ => rfl)
theorem cp_reex_loop4 {post : SX → Prop} {d rd : Nat} {x2 x3 : Int32} (hd : d < 256) (hrd : rd < 256)
    (K : ∀ frg', cp_rg frg' d = cp_rg a_snapshot rd → (∀ i, i ≠ d → cp_rg frg' i = cp_rg a_frameRegs i) →
      wpX_governing (fun r_54 => (vp_in (nI rd) 256 ∧ ∀ a_valueOf_101 : Nat → Int32, a_valueOf_101 = upd a_valueOf (nI rd).toNatClampNeg r_54 → (vp_in x2 256 ∧ (∀ x6_103 : Int32, x6_103 = ((a_subjectOf x2.toNatClampNeg) * 16) + x3 → (vp_in x6_103 96 ∧ (vp_in ((nI d * 4) + (a_aAt x6_103.toNatClampNeg)) 1024 ∧ ∀ a_frameRegs_106 : Nat → Int32, a_frameRegs_106 = upd frg' ((nI d * 4) + (a_aAt x6_103.toNatClampNeg)).toNatClampNeg r_54 → (post (f_cells, f_functions, f_limit, f_status, f_freeCount, f_first, f_size, f_heapSize, f_depth, nI rd, f_inserted, f_overflowed, a_bodySizes, a_opAt, a_aAt, a_bAt, a_baseValue, a_settledValue, a_outputValue, a_changedMark, a_cellHead, a_cellTail, a_kindOf, a_subjectOf, a_valueOf_101, a_labelOf, a_nextOf, a_ownerOf, a_leaveOf, a_pcOf, a_snapshot, a_cellPrev, a_cellNext, a_sourceOf, a_alive, a_queued, a_free, a_nodeAt, a_indexOf, a_heap, a_frameEnter, a_framePc, a_frameZone, a_frameWait, a_frameRegs_106)))))))) (f_cells, f_functions, f_limit, f_status, f_freeCount, f_first, f_size, f_heapSize, f_depth, f_cur, f_inserted, f_overflowed, a_bodySizes, a_opAt, a_aAt, a_bAt, a_baseValue, a_settledValue, a_outputValue, a_changedMark, a_cellHead, a_cellTail, a_kindOf, a_subjectOf, a_valueOf, a_labelOf, a_nextOf, a_ownerOf, a_leaveOf, a_pcOf, a_snapshot, a_cellPrev, a_cellNext, a_sourceOf, a_alive, a_queued, a_free, a_nodeAt, a_indexOf, a_heap, a_frameEnter, a_framePc, a_frameZone, a_frameWait, frg') (nI rd)) :
    ∀ (k r m : Nat) (frg : Nat → Int32), r + k = 4 → k < m → (∀ q, q < r → cp_rg frg d q = cp_rg a_snapshot rd q) → (∀ i, i ≠ d → cp_rg frg i = cp_rg a_frameRegs i) →
      wX_reexecute_39 post (nI rd) x2 x3 (nI d) f_cells f_functions f_limit f_status f_freeCount f_first f_size f_heapSize f_depth f_cur f_inserted f_overflowed m (nI r) a_bodySizes a_opAt a_aAt a_bAt a_baseValue a_settledValue a_outputValue a_changedMark a_cellHead a_cellTail a_kindOf a_subjectOf a_valueOf a_labelOf a_nextOf a_ownerOf a_leaveOf a_pcOf a_snapshot a_cellPrev a_cellNext a_sourceOf a_alive a_queued a_free a_nodeAt a_indexOf a_heap a_frameEnter a_framePc a_frameZone a_frameWait frg := by
  intro k
  induction k with
  | zero =>
    intro r m frg hr hm h1 h2
    obtain ⟨m, rfl⟩ : ∃ m', m = m' + 1 := ⟨m - 1, by omega⟩
    obtain rfl : r = 4 := by omega
    refine br_t (by decide) (K frg ?_ h2)
    funext q
    by_cases hq : q < 4
    · exact h1 q hq
    · exact (if_neg hq).trans (if_neg hq).symm
  | succ k ih =>
    intro r m frg hr hm h1 h2
    obtain ⟨m, rfl⟩ : ∃ m', m = m' + 1 := ⟨m - 1, by omega⟩
    have e1 : nI d * 4 + nI r = nI (d * 4 + r) := by
      rw [← nI_add, ← pk_mul]; rfl
    have e2 : nI rd * 4 + nI r = nI (rd * 4 + r) := by
      rw [← nI_add, ← pk_mul]; rfl
    refine br_f (nI_ge (b := 4) (by omega) (by decide)) ?_
    rw [e1, e2, nI_clamp (n := d * 4 + r) (by omega), nI_clamp (n := rd * 4 + r) (by omega)]
    refine ⟨vp_in_nI (by omega) (by decide), vp_in_nI (by omega) (by decide), nm_e (nm_r (nI_1 _) ?_)⟩
    refine ih (r + 1) m _ (by omega) (by omega) (fun q hq => ?_) (fun i hi => ?_)
    · rw [cp_rg_upd (by omega)]
      by_cases e : q = r
      · rw [e, pk_us, cp_rg_at (by omega)]
      · rw [pk_un e]; exact h1 q (by omega)
    · rw [cp_rg_ne (by omega) hi]; exact h2 i hi
theorem cp_read_loop4 {post : SX → Prop} {d nd : Nat} {x2 x7 : Int32} (hd : d < 256) (hnd : nd < 256)
    (K : ∀ sn', cp_rg sn' nd = cp_rg a_frameRegs d → (∀ i, i ≠ nd → cp_rg sn' i = cp_rg a_snapshot i) →
      (vp_in x2 96 ∧ (vp_in (nI (d * 4) + (a_aAt x2.toNatClampNeg)) 1024 ∧ ∀ a_frameRegs_197 : Nat → Int32, a_frameRegs_197 = upd a_frameRegs (nI (d * 4) + (a_aAt x2.toNatClampNeg)).toNatClampNeg x7 → (post (f_cells, f_functions, f_limit, f_status, f_freeCount, f_first, f_size, f_heapSize, f_depth, f_cur, f_inserted, f_overflowed, a_bodySizes, a_opAt, a_aAt, a_bAt, a_baseValue, a_settledValue, a_outputValue, a_changedMark, a_cellHead, a_cellTail, a_kindOf, a_subjectOf, a_valueOf, a_labelOf, a_nextOf, a_ownerOf, a_leaveOf, a_pcOf, sn', a_cellPrev, a_cellNext, a_sourceOf, a_alive, a_queued, a_free, a_nodeAt, a_indexOf, a_heap, a_frameEnter, a_framePc, a_frameZone, a_frameWait, a_frameRegs_197))))) :
    ∀ (k r m : Nat) (sn : Nat → Int32), r + k = 4 → k < m → (∀ q, q < r → cp_rg sn nd q = cp_rg a_frameRegs d q) → (∀ i, i ≠ nd → cp_rg sn i = cp_rg a_snapshot i) →
      wX_doRead_81 post x2 (nI (d * 4)) (nI nd) x7 f_cells f_functions f_limit f_status f_freeCount f_first f_size f_heapSize f_depth f_cur f_inserted f_overflowed m (nI r) a_bodySizes a_opAt a_aAt a_bAt a_baseValue a_settledValue a_outputValue a_changedMark a_cellHead a_cellTail a_kindOf a_subjectOf a_valueOf a_labelOf a_nextOf a_ownerOf a_leaveOf a_pcOf sn a_cellPrev a_cellNext a_sourceOf a_alive a_queued a_free a_nodeAt a_indexOf a_heap a_frameEnter a_framePc a_frameZone a_frameWait a_frameRegs := by
  intro k
  induction k with
  | zero =>
    intro r m sn hr hm h1 h2
    obtain ⟨m, rfl⟩ : ∃ m', m = m' + 1 := ⟨m - 1, by omega⟩
    obtain rfl : r = 4 := by omega
    refine br_t (by decide) (K sn ?_ h2)
    funext q
    by_cases hq : q < 4
    · exact h1 q hq
    · exact (if_neg hq).trans (if_neg hq).symm
  | succ k ih =>
    intro r m sn hr hm h1 h2
    obtain ⟨m, rfl⟩ : ∃ m', m = m' + 1 := ⟨m - 1, by omega⟩
    have e1 : nI (d * 4) + nI r = nI (d * 4 + r) := nI_add _ _
    have e2 : nI nd * 4 + nI r = nI (nd * 4 + r) := by
      rw [← nI_add, ← pk_mul]; rfl
    refine br_f (nI_ge (b := 4) (by omega) (by decide)) ?_
    rw [e1, e2, nI_clamp (n := d * 4 + r) (by omega), nI_clamp (n := nd * 4 + r) (by omega)]
    refine ⟨vp_in_nI (by omega) (by decide), vp_in_nI (by omega) (by decide), nm_e (nm_r (nI_1 _) ?_)⟩
    refine ih (r + 1) m _ (by omega) (by omega) (fun q hq => ?_) (fun i hi => ?_)
    · rw [cp_rg_upd (by omega)]
      by_cases e : q = r
      · rw [e, pk_us, cp_rg_at (by omega)]
      · rw [pk_un e]; exact h1 q (by omega)
    · rw [cp_rg_ne (by omega) hi]; exact h2 i hi
end
end
section
/-! ===== a new node behind the final part ===== -/
theorem cp_upd_same {f : Nat → Int32} {k : Nat} {x : Int32} (h : f k = x) : upd f k x = f := by
  funext j
  by_cases e : j = k
  · rw [e, pk_us]; exact h.symm
  · rw [pk_un e]
theorem cp_H_lab {sz : Int32} {hp qd lab lab' : Nat → Int32} (h : ∀ m, m < 256 → qd m ≠ 0 → lab' m = lab m) (hH : cp_H sz hp qd lab) : cp_H sz hp qd lab' := by
  obtain ⟨hs, e, hB, hO⟩ := hH
  have key : ∀ i, i < hs → cp_lb lab' (hp i) = cp_lb lab (hp i) := by
    intro i hi
    obtain ⟨n, hn, en, hq⟩ := hB.1 i hi
    unfold cp_lb
    rw [en, nI_clamp (by omega), h n hn hq]
  refine ⟨hs, e, hB, fun i i0 il => ?_⟩
  rw [key i il, key _ (by omega)]
  exact hO i i0 il
section
variable {f_cells f_functions f_limit f_status f_freeCount f_first f_size f_heapSize f_depth f_cur f_inserted f_overflowed : Int32} {a_bodySizes a_opAt a_aAt a_bAt a_baseValue a_settledValue a_outputValue a_changedMark a_cellHead a_cellTail a_kindOf a_subjectOf a_valueOf a_labelOf a_nextOf a_ownerOf a_leaveOf a_pcOf a_snapshot a_cellPrev a_cellNext a_sourceOf a_alive a_queued a_free a_nodeAt a_indexOf a_heap a_frameEnter a_framePc a_frameZone a_frameWait a_frameRegs : Nat → Int32}
/-- room for a label behind the last final node -/
theorem cp_room {cN fN lN ins fc : Nat} {p0 post : List cp_N} {z : cp_N} (hB : cp_B cN fN lN ins fc (p0 ++ [z]) post f_cells f_functions f_limit f_inserted f_freeCount f_heapSize a_kindOf a_subjectOf a_valueOf a_labelOf a_ownerOf a_leaveOf a_pcOf a_snapshot a_alive a_queued a_free a_heap) (hlt : ins < lN) :
    (a_labelOf (cp_id z) + 1).toInt = (a_labelOf (cp_id z)).toInt + 1 ∧ 0 ≤ (a_labelOf (cp_id z)).toInt ∧ (a_labelOf (cp_id z)).toInt ≤ 30720 + ins ∧ (a_labelOf (cp_id z)).toInt % 256 ≤ ins ∧ (∀ g ∈ post, (a_labelOf (cp_id z)).toInt + 1 < (a_labelOf (cp_id g)).toInt) ∧ (∀ g ∈ p0 ++ [z], (a_labelOf (cp_id g)).toInt ≤ (a_labelOf (cp_id z)).toInt) := by
  obtain ⟨⟨_, _, _, _, _, _, n7, _, n9, _⟩, hR, hL, ⟨hc1, hc2, hc3⟩, _⟩ := hB
  have hzm : z ∈ p0 ++ [z] := List.mem_append.mpr (Or.inr List.mem_cons_self)
  have h1 := hc1 z (List.mem_append.mpr (Or.inl hzm))
  have h3 := hc3 p0 z rfl
  obtain ⟨l1, l2, l3⟩ := List.pairwise_append.mp hL
  refine ⟨?_, h1.1, h1.2, h3, fun g hg => ?_, fun g hg => ?_⟩
  · rw [Int32.toInt_add, show (1 : Int32).toInt = 1 by decide]
    exact Int.bmod_eq_of_le (by omega) (by omega)
  · have a := l3 z hzm g hg
    have b := hc2 g hg
    omega
  · rcases List.mem_append.mp hg with h | h
    · have := (List.pairwise_append.mp l1).2.2 g h z List.mem_cons_self
      omega
    · rcases List.mem_cons.mp h with rfl | h
      · exact Int.le_refl _
      · cases h
theorem cp_B_app {cN fN lN ins fc : Nat} {p0 post : List cp_N} {z g : cp_N} {vl' ow' lv' pc' sn' : Nat → Int32} (hB : cp_B cN fN lN ins (fc + 1) (p0 ++ [z]) post f_cells f_functions f_limit f_inserted f_freeCount f_heapSize a_kindOf a_subjectOf a_valueOf a_labelOf a_ownerOf a_leaveOf a_pcOf a_snapshot a_alive a_queued a_free a_heap) (hlt : ins < lN) (hgid : cp_id g < 256) (hfr : a_free fc = nI (cp_id g))
    (hvl : ∀ m, m ≠ cp_id g → vl' m = a_valueOf m) (hvn : vl' (cp_id g) = cp_v g) (how : ∀ m, m ≠ cp_id g → ow' m = a_ownerOf m) (hon : ow' (cp_id g) = nI (cp_o g))
    (hlv : ∀ x ∈ p0 ++ [z] ++ post, cp_k x = 3 → lv' (cp_o x) = a_leaveOf (cp_o x)) (hln : cp_k g = 3 → lv' (cp_o g) = nI (cp_id g)) (hpc : ∀ m, m ≠ cp_id g → pc' m = a_pcOf m) (hsn : ∀ m, m ≠ cp_id g → cp_rg sn' m = cp_rg a_snapshot m)
    (hgp : cp_k g = 1 → pc' (cp_id g) = nI (cp_pc g) ∧ cp_rg sn' (cp_id g) = cp_sn g) (hk4 : cp_k g = 0 ∨ cp_k g = 1 ∨ cp_k g = 2 ∨ cp_k g = 3) (hs : cp_k g = 1 ∨ cp_k g = 2 → cp_s g < cN) (hs0 : cp_k g = 0 → cp_s g < fN ∧ cp_o g = cp_id g) (ho : cp_o g < 256) (hof : ∀ i, i < fc → a_free i ≠ nI (cp_o g)) :
    cp_B cN fN lN (ins + 1) fc (p0 ++ [z] ++ [g]) post f_cells f_functions f_limit (nI (ins + 1)) (nI fc) f_heapSize (upd a_kindOf (cp_id g) (cp_k g)) (upd a_subjectOf (cp_id g) (nI (cp_s g))) vl' (upd a_labelOf (cp_id g) (a_labelOf (cp_id z) + 1)) ow' lv' pc' sn' (upd a_alive (cp_id g) 1) a_queued a_free a_heap ∧ a_queued (cp_id g) = 0 ∧ (∀ x ∈ p0 ++ [z] ++ post, cp_id x ≠ cp_id g ∧ cp_o x ≠ cp_id g) := by
  obtain ⟨r1, r2, r3, r4, r5, r6⟩ := cp_room hB hlt
  obtain ⟨⟨n1, n2, n3, n4, n5, n6, n7, n8, n9, n10, n11, n12, n13⟩, hR, hL, ⟨hc1, hc2, hc3⟩, hH, hqk, hA, ⟨hF1, hF2⟩, hLq⟩ := hB
  obtain ⟨n, hn, en, hq, hno⟩ := hF1 fc (by omega)
  have hng : n = cp_id g := by
    rw [hfr] at en
    exact ((nI_eq (by omega) (by omega)).mp en).symm
  subst hng
  have hzm : z ∈ p0 ++ [z] := List.mem_append.mpr (Or.inr List.mem_cons_self)
  have hnew : ∀ x ∈ p0 ++ [z] ++ [g] ++ post, x = g ∨ x ∈ p0 ++ [z] ++ post := by
    intro x hx
    rcases List.mem_append.mp hx with h | h
    · rcases List.mem_append.mp h with h | h
      · exact Or.inr (List.mem_append.mpr (Or.inl h))
      · rcases List.mem_cons.mp h with h | h
        · exact Or.inl h
        · cases h
    · exact Or.inr (List.mem_append.mpr (Or.inr h))
  have hold : ∀ x ∈ p0 ++ [z] ++ post, x ∈ p0 ++ [z] ++ [g] ++ post := by
    intro x hx
    rcases List.mem_append.mp hx with h | h
    · exact List.mem_append.mpr (Or.inl (List.mem_append.mpr (Or.inl h)))
    · exact List.mem_append.mpr (Or.inr h)
  have ofn : ∀ x ∈ p0 ++ [z] ++ post, cp_id x ≠ cp_id g := fun x hx => (hno x hx).1
  have hlz : ∀ x ∈ p0 ++ [z] ++ post, upd a_labelOf (cp_id g) (a_labelOf (cp_id z) + 1) (cp_id x) = a_labelOf (cp_id x) := fun x hx => pk_un (ofn x hx)
  obtain ⟨l1, l2, l3⟩ := List.pairwise_append.mp hL
  refine ⟨⟨⟨n1, n2, n3, n4, n5, n6, n7, rfl, by omega, rfl, by omega, by omega, ?_⟩, fun x hx => ?_, ?_, ⟨fun x hx => ?_, fun x hx => ?_, fun p y e => ?_⟩, ?_, fun x hx h => ?_, fun m hm => ?_, ⟨fun i hi => ?_, fun i j hi hj => hF2 i j (by omega) (by omega)⟩, fun m hm h => ?_⟩, hq, hno⟩
  · have : (p0 ++ [z] ++ [g] ++ post).length = (p0 ++ [z] ++ post).length + 1 := by simp; omega
    omega
  · rcases hnew x hx with rfl | hx
    · exact ⟨⟨hn, pk_us, pk_us, hvn, fun k => Nat.lt_of_lt_of_le (hs k) n3⟩, hon, ho, hk4, hs, hs0, hln, hgp⟩
    · have e := ofn x hx
      obtain ⟨⟨x1, x2, x3, x4, x5⟩, x6, x7, x8, x9, x10, x11, x12⟩ := hR x hx
      refine ⟨⟨x1, ?_, ?_, ?_, x5⟩, ?_, x7, x8, x9, x10, fun k => ?_, fun k => ?_⟩
      · rw [pk_un e]; exact x2
      · rw [pk_un e]; exact x3
      · rw [hvl _ e]; exact x4
      · rw [how _ e]; exact x6
      · rw [hlv x hx k]; exact x11 k
      · rw [hpc _ e, hsn _ e]; exact x12 k
  · refine List.pairwise_append.mpr ⟨List.pairwise_append.mpr ⟨?_, List.pairwise_singleton _ _, ?_⟩, ?_, ?_⟩
    · refine List.Pairwise.imp_of_mem (fun {a b} ha hb hab => ?_) l1
      rw [hlz a (List.mem_append.mpr (Or.inl ha)), hlz b (List.mem_append.mpr (Or.inl hb))]; exact hab
    · intro a ha b hb
      rcases List.mem_cons.mp hb with rfl | hb
      · rw [hlz a (List.mem_append.mpr (Or.inl ha)), pk_us, r1]
        have := r6 a ha; omega
      · cases hb
    · refine List.Pairwise.imp_of_mem (fun {a b} ha hb hab => ?_) l2
      rw [hlz a (List.mem_append.mpr (Or.inr ha)), hlz b (List.mem_append.mpr (Or.inr hb))]; exact hab
    · intro a ha b hb
      rw [hlz b (List.mem_append.mpr (Or.inr hb))]
      rcases List.mem_append.mp ha with ha | ha
      · rw [hlz a (List.mem_append.mpr (Or.inl ha))]; exact l3 a ha b hb
      · rcases List.mem_cons.mp ha with rfl | ha
        · rw [pk_us, r1]; exact r5 b hb
        · cases ha
  · rcases hnew x hx with rfl | hx
    · rw [pk_us, r1]; exact ⟨by omega, by omega⟩
    · rw [hlz x hx]
      have := hc1 x hx
      exact ⟨this.1, by omega⟩
  · rw [hlz x (List.mem_append.mpr (Or.inr hx))]; exact hc2 x hx
  · have := List.append_inj' e rfl
    obtain rfl : g = y := (List.cons.inj this.2).1
    rw [pk_us, r1]; omega
  · refine cp_H_lab (fun m hm h => pk_un (fun e => ?_)) hH
    rw [e] at h; exact h hq
  · rcases hnew x hx with rfl | hx
    · exact absurd hq h
    · exact hqk x hx h
  · by_cases e : m = cp_id g
    · rw [e, pk_us]
      exact ⟨fun _ => ⟨g, List.mem_append.mpr (Or.inl (List.mem_append.mpr (Or.inr List.mem_cons_self))), rfl⟩, fun _ => by decide⟩
    · rw [pk_un e, hA m hm]
      constructor
      · rintro ⟨x, hx, e2⟩; exact ⟨x, hold x hx, e2⟩
      · rintro ⟨x, hx, e2⟩
        rcases hnew x hx with rfl | hx
        · exact absurd e2.symm e
        · exact ⟨x, hx, e2⟩
  · obtain ⟨k, hk, ek, hqk', hno'⟩ := hF1 i (by omega)
    have hkg : k ≠ cp_id g := by
      intro e
      have := hF2 i fc (by omega) (by omega) (by rw [ek, hfr, e])
      omega
    refine ⟨k, hk, ek, hqk', fun x hx => ?_⟩
    rcases hnew x hx with rfl | hx
    · exact ⟨fun e => hkg e.symm, fun e => hof i hi (by rw [ek, e])⟩
    · exact hno' x hx
  · have e : m ≠ cp_id g := fun e => by rw [e] at h; exact h hq
    rw [pk_un e]; exact hLq m hm h
theorem cp_Nx_ins {nx : Nat → Int32} {p0 q : List cp_N} {z g : cp_N} (hU : cp_U (p0 ++ [z] ++ g :: q)) (hN : cp_Nx nx (p0 ++ [z] ++ q) (-1)) : cp_Nx (upd (upd nx (cp_id g) (nx (cp_id z))) (cp_id z) (nI (cp_id g))) (p0 ++ [z] ++ [g] ++ q) (-1) := by
  obtain ⟨n1, n2⟩ := (cp_Nx_app _ _ _).mp hN
  obtain ⟨n3, n4, _⟩ := (cp_Nx_app _ _ _).mp n1
  obtain ⟨u1, u2, u3⟩ := cp_U_app.mp hU
  obtain ⟨u4, u5⟩ := cp_U_cons.mp u2
  have u6 := (cp_U_app.mp u1).2.2
  have hzm : z ∈ p0 ++ [z] := List.mem_append.mpr (Or.inr List.mem_cons_self)
  have hzg := u3 z hzm g List.mem_cons_self
  refine (cp_Nx_app _ _ _).mpr ⟨(cp_Nx_app _ _ _).mpr ⟨(cp_Nx_app _ _ _).mpr ⟨?_, ?_, trivial⟩, ?_, trivial⟩, ?_⟩
  · exact cp_Nx_fr _ _ (fun x hx => by rw [pk_un (fun e => u6 x hx z List.mem_cons_self e), pk_un (fun e => u3 x (List.mem_append.mpr (Or.inl hx)) g List.mem_cons_self e)]) n3
  · rw [pk_us]; rfl
  · rw [pk_un (fun e => hzg e.symm), pk_us]; exact n4
  · exact cp_Nx_fr _ _ (fun x hx => by rw [pk_un (fun e => u3 z hzm x (List.mem_cons_of_mem _ hx) e.symm), pk_un (fun e => u4 x hx e.symm)]) n2
end
end
section
/-! ===== the whole state of an evaluation ===== -/
/-- X's frames in their arrays -/
def cp_XR (fe fp fz fw frg lv : Nat → Int32) : List cp_X → Prop
  | [] => True
  | X :: Xs => fe Xs.length = nI X.1.1 ∧ fp Xs.length = nI X.1.2.2.2.1 ∧ X.1.2.2.2.1 ≤ 63 ∧ fz Xs.length = cp_xz X ∧ fw Xs.length = cp_xw X ∧ cp_rg frg Xs.length = X.1.2.2.2.2 ∧ lv X.1.1 = cp_xl X ∧
      (cp_xl X = -1 → ∀ Y ∈ Xs, Y.1.1 ≠ X.1.1) ∧ cp_XR fe fp fz fw frg lv Xs
theorem cp_XR_fr {fe fp fz fw frg lv fe' fp' fz' fw' frg' lv' : Nat → Int32} : ∀ (Xs : List cp_X), (∀ i, i < Xs.length → fe' i = fe i ∧ fp' i = fp i ∧ fz' i = fz i ∧ fw' i = fw i ∧ cp_rg frg' i = cp_rg frg i) → (∀ X ∈ Xs, lv' X.1.1 = lv X.1.1) → cp_XR fe fp fz fw frg lv Xs → cp_XR fe' fp' fz' fw' frg' lv' Xs
  | [], _, _, _ => trivial
  | X :: Xs, h, hl, hx => by
    have hi := h Xs.length (by show _ < Xs.length + 1; omega)
    obtain ⟨h1, h2, h3, h4, h5, h6, h7, h8, h9⟩ := hx
    refine ⟨hi.1.trans h1, hi.2.1.trans h2, h3, hi.2.2.1.trans h4, hi.2.2.2.1.trans h5, hi.2.2.2.2.trans h6, (hl X List.mem_cons_self).trans h7, h8, ?_⟩
    exact cp_XR_fr Xs (fun i hi => h i (by show _ < Xs.length + 1; omega)) (fun Y hY => hl Y (List.mem_cons_of_mem _ hY)) h9
/-- the code is well formed -/
def cp_CW (C : cp_C) (fN : Nat) : Prop := ∀ f, f < fN → C.2.1 f = nI (cp_bz C f) ∧ cp_bz C f ≤ 16 ∧ ∀ i, i < cp_bz C f →
  (∃ o, o ≤ 10 ∧ C.2.2.1 (f * 16 + i) = nI o) ∧ (C.2.2.1 (f * 16 + i) = 10 → ∃ a, a < fN ∧ C.2.2.2.1 (f * 16 + i) = nI a) ∧ (¬ C.2.2.1 (f * 16 + i) = 10 → ∃ a, a < 4 ∧ C.2.2.2.1 (f * 16 + i) = nI a) ∧
  (C.2.2.1 (f * 16 + i) = 7 → ∃ b, b ≤ 15 ∧ C.2.2.2.2 (f * 16 + i) = nI b) ∧
  (¬ C.2.2.1 (f * 16 + i) = 0 → ¬ C.2.2.1 (f * 16 + i) = 6 → ¬ C.2.2.1 (f * 16 + i) = 7 → ∃ b, b < 4 ∧ C.2.2.2.2 (f * 16 + i) = nI b)
def cp_mx : List cp_X → Nat
  | [] => 0
  | X :: Xs => 2 * (17 - min X.1.2.2.2.1 16) + (if cp_xw X = -1 then 0 else 1) + cp_mx Xs
def cp_mu (lN ins : Nat) (post : List cp_N) (Xs : List cp_X) : Nat := 40 * (lN - ins) + 40 * post.length + cp_mx Xs + 1
/-- an overflow of the true machine -/
def cp_Ov (C : cp_C) (base : Nat → Int32) (g0 : cp_N) (lN : Nat) : Prop := ∃ st T, cp_Re C base g0 st T ∧ lN < T.length
def cp_M (cN fN lN ins fc : Nat) (g0 : cp_N) (pre post : List cp_N) (st : List cp_F) (Xs : List cp_X) (f_cells f_functions f_limit f_status f_freeCount f_first f_size f_heapSize f_depth f_cur f_inserted f_overflowed : Int32) (a_bodySizes a_opAt a_aAt a_bAt a_baseValue a_settledValue a_outputValue a_changedMark a_cellHead a_cellTail a_kindOf a_subjectOf a_valueOf a_labelOf a_nextOf a_ownerOf a_leaveOf a_pcOf a_snapshot a_cellPrev a_cellNext a_sourceOf a_alive a_queued a_free a_nodeAt a_indexOf a_heap a_frameEnter a_framePc a_frameZone a_frameWait a_frameRegs : Nat → Int32) : Prop :=
  cp_B cN fN lN ins fc pre post f_cells f_functions f_limit f_inserted f_freeCount f_heapSize a_kindOf a_subjectOf a_valueOf a_labelOf a_ownerOf a_leaveOf a_pcOf a_snapshot a_alive a_queued a_free a_heap ∧ cp_CI a_cellHead a_cellTail a_cellPrev a_cellNext a_sourceOf a_queued a_baseValue (pre ++ post) ∧ cp_Nx a_nextOf (pre ++ post) (-1) ∧ f_first = cp_hx pre (-1) ∧ (∃ p0 z, pre = p0 ++ [z]) ∧
  (∀ A ∈ st, cp_SP a_free fc a_kindOf a_subjectOf a_valueOf fN A.1 A.2.1 A.2.2.1) ∧ cp_XR a_frameEnter a_framePc a_frameZone a_frameWait a_frameRegs a_leaveOf Xs ∧ f_depth = nI Xs.length ∧ Xs.length ≤ pre.length ∧ ins ≤ pre.length ∧
  cp_CW (f_cells, a_bodySizes, a_opAt, a_aAt, a_bAt) fN ∧ cp_k g0 = 0 ∧ cp_Re (f_cells, a_bodySizes, a_opAt, a_aAt, a_bAt) a_baseValue g0 st pre ∧ f_overflowed = 0
def cp_Ex (cN fN lN ins fc : Nat) (g0 : cp_N) (pre post : List cp_N) (st : List cp_F) (Xs : List cp_X) (f_cells f_functions f_limit f_status f_freeCount f_first f_size f_heapSize f_depth f_cur f_inserted f_overflowed : Int32) (a_bodySizes a_opAt a_aAt a_bAt a_baseValue a_settledValue a_outputValue a_changedMark a_cellHead a_cellTail a_kindOf a_subjectOf a_valueOf a_labelOf a_nextOf a_ownerOf a_leaveOf a_pcOf a_snapshot a_cellPrev a_cellNext a_sourceOf a_alive a_queued a_free a_nodeAt a_indexOf a_heap a_frameEnter a_framePc a_frameZone a_frameWait a_frameRegs : Nat → Int32) : Prop :=
  cp_M cN fN lN ins fc g0 pre post st Xs f_cells f_functions f_limit f_status f_freeCount f_first f_size f_heapSize f_depth f_cur f_inserted f_overflowed a_bodySizes a_opAt a_aAt a_bAt a_baseValue a_settledValue a_outputValue a_changedMark a_cellHead a_cellTail a_kindOf a_subjectOf a_valueOf a_labelOf a_nextOf a_ownerOf a_leaveOf a_pcOf a_snapshot a_cellPrev a_cellNext a_sourceOf a_alive a_queued a_free a_nodeAt a_indexOf a_heap a_frameEnter a_framePc a_frameZone a_frameWait a_frameRegs ∧ f_cur = cp_lt (-1) pre ∧ (∃ X Xs', Xs = X :: Xs' ∧ cp_xw X = -1) ∧ cp_E (f_cells, a_bodySizes, a_opAt, a_aAt, a_bAt) Xs st post
def cp_Wa (cN fN lN ins fc : Nat) (g0 : cp_N) (pre post : List cp_N) (st : List cp_F) (Xs : List cp_X) (f_cells f_functions f_limit f_status f_freeCount f_first f_size f_heapSize f_depth f_cur f_inserted f_overflowed : Int32) (a_bodySizes a_opAt a_aAt a_bAt a_baseValue a_settledValue a_outputValue a_changedMark a_cellHead a_cellTail a_kindOf a_subjectOf a_valueOf a_labelOf a_nextOf a_ownerOf a_leaveOf a_pcOf a_snapshot a_cellPrev a_cellNext a_sourceOf a_alive a_queued a_free a_nodeAt a_indexOf a_heap a_frameEnter a_framePc a_frameZone a_frameWait a_frameRegs : Nat → Int32) : Prop :=
  cp_M cN fN lN ins fc g0 pre post st Xs f_cells f_functions f_limit f_status f_freeCount f_first f_size f_heapSize f_depth f_cur f_inserted f_overflowed a_bodySizes a_opAt a_aAt a_bAt a_baseValue a_settledValue a_outputValue a_changedMark a_cellHead a_cellTail a_kindOf a_subjectOf a_valueOf a_labelOf a_nextOf a_ownerOf a_leaveOf a_pcOf a_snapshot a_cellPrev a_cellNext a_sourceOf a_alive a_queued a_free a_nodeAt a_indexOf a_heap a_frameEnter a_framePc a_frameZone a_frameWait a_frameRegs ∧ cp_Wt (f_cells, a_bodySizes, a_opAt, a_aAt, a_bAt) Xs (cp_lt (-1) pre) st post
def cp_Sx (cN fN lN : Nat) (g0 : cp_N) (mu : Nat) (f_cells f_functions f_limit f_status f_freeCount f_first f_size f_heapSize f_depth f_cur f_inserted f_overflowed : Int32) (a_bodySizes a_opAt a_aAt a_bAt a_baseValue a_settledValue a_outputValue a_changedMark a_cellHead a_cellTail a_kindOf a_subjectOf a_valueOf a_labelOf a_nextOf a_ownerOf a_leaveOf a_pcOf a_snapshot a_cellPrev a_cellNext a_sourceOf a_alive a_queued a_free a_nodeAt a_indexOf a_heap a_frameEnter a_framePc a_frameZone a_frameWait a_frameRegs : Nat → Int32) : Prop :=
  ∃ ins fc pre post st Xs, cp_mu lN ins post Xs ≤ mu ∧ (cp_Ex cN fN lN ins fc g0 pre post st Xs f_cells f_functions f_limit f_status f_freeCount f_first f_size f_heapSize f_depth f_cur f_inserted f_overflowed a_bodySizes a_opAt a_aAt a_bAt a_baseValue a_settledValue a_outputValue a_changedMark a_cellHead a_cellTail a_kindOf a_subjectOf a_valueOf a_labelOf a_nextOf a_ownerOf a_leaveOf a_pcOf a_snapshot a_cellPrev a_cellNext a_sourceOf a_alive a_queued a_free a_nodeAt a_indexOf a_heap a_frameEnter a_framePc a_frameZone a_frameWait a_frameRegs ∨ cp_Wa cN fN lN ins fc g0 pre post st Xs f_cells f_functions f_limit f_status f_freeCount f_first f_size f_heapSize f_depth f_cur f_inserted f_overflowed a_bodySizes a_opAt a_aAt a_bAt a_baseValue a_settledValue a_outputValue a_changedMark a_cellHead a_cellTail a_kindOf a_subjectOf a_valueOf a_labelOf a_nextOf a_ownerOf a_leaveOf a_pcOf a_snapshot a_cellPrev a_cellNext a_sourceOf a_alive a_queued a_free a_nodeAt a_indexOf a_heap a_frameEnter a_framePc a_frameZone a_frameWait a_frameRegs)
theorem cp_mid (p q : List cp_N) (g : cp_N) : p ++ [g] ++ q = p ++ g :: q := by simp
theorem cp_hx_ne {p q : List cp_N} (h : ∃ p0 z, p = p0 ++ [z]) (d : Int32) : cp_hx (p ++ q) d = cp_hx p (-1) := by
  obtain ⟨p0, z, rfl⟩ := h
  cases p0 <;> rfl
section
variable {f_cells f_functions f_limit f_status f_freeCount f_first f_size f_heapSize f_depth f_cur f_inserted f_overflowed : Int32} {a_bodySizes a_opAt a_aAt a_bAt a_baseValue a_settledValue a_outputValue a_changedMark a_cellHead a_cellTail a_kindOf a_subjectOf a_valueOf a_labelOf a_nextOf a_ownerOf a_leaveOf a_pcOf a_snapshot a_cellPrev a_cellNext a_sourceOf a_alive a_queued a_free a_nodeAt a_indexOf a_heap a_frameEnter a_framePc a_frameZone a_frameWait a_frameRegs : Nat → Int32}
theorem cp_address {post : Int32 → Prop} {v : Int32} (h0 : ¬ f_cells = 0) (K : post (cp_ad f_cells v)) : wpX_address post (f_cells, f_functions, f_limit, f_status, f_freeCount, f_first, f_size, f_heapSize, f_depth, f_cur, f_inserted, f_overflowed, a_bodySizes, a_opAt, a_aAt, a_bAt, a_baseValue, a_settledValue, a_outputValue, a_changedMark, a_cellHead, a_cellTail, a_kindOf, a_subjectOf, a_valueOf, a_labelOf, a_nextOf, a_ownerOf, a_leaveOf, a_pcOf, a_snapshot, a_cellPrev, a_cellNext, a_sourceOf, a_alive, a_queued, a_free, a_nodeAt, a_indexOf, a_heap, a_frameEnter, a_framePc, a_frameZone, a_frameWait, a_frameRegs) v := by
  refine And.intro h0 (nm_e ?_)
  unfold cp_ad at K
  by_cases h : 0 ≤ v - v / f_cells * f_cells
  · rw [if_pos h] at K; exact br_t h K
  · rw [if_neg h] at K; exact br_f h (nm_e K)
theorem cp_SP_app {fc n fN e f : Nat} {x : Int32} {kd' sb' vl' : Nat → Int32} (hn : n < 256) (hfr : a_free fc = nI n) (h : cp_SP a_free (fc + 1) a_kindOf a_subjectOf a_valueOf fN e f x) (hk : ∀ m, m ≠ n → kd' m = a_kindOf m) (hs : ∀ m, m ≠ n → sb' m = a_subjectOf m) (hv : ∀ m, m ≠ n → vl' m = a_valueOf m) : cp_SP a_free fc kd' sb' vl' fN e f x := by
  obtain ⟨h1, h2, h3, h4, h5, h6⟩ := h
  have hne : e ≠ n := fun z => h5 fc (by omega) (by rw [hfr, z])
  exact ⟨h1, (hs e hne).trans h2, (hv e hne).trans h3, h4, fun i hi => h5 i (by omega), (hk e hne).trans h6⟩
/-- the common part of all steps that append a node -/
theorem cp_M_app {cN fN lN ins fc : Nat} {g0 : cp_N} {p0 post : List cp_N} {z g : cp_N} {st st' : List cp_F} {Xs Xs' : List cp_X} {vl' ow' lv' pc' sn' hd' tl' pv' nx' src' fe' fp' fz' fw' frg' qd' hp' : Nat → Int32} {cur' sz' : Int32}
    (hM : cp_M cN fN lN ins (fc + 1) g0 (p0 ++ [z]) post st Xs f_cells f_functions f_limit f_status f_freeCount f_first f_size f_heapSize f_depth f_cur f_inserted f_overflowed a_bodySizes a_opAt a_aAt a_bAt a_baseValue a_settledValue a_outputValue a_changedMark a_cellHead a_cellTail a_kindOf a_subjectOf a_valueOf a_labelOf a_nextOf a_ownerOf a_leaveOf a_pcOf a_snapshot a_cellPrev a_cellNext a_sourceOf a_alive a_queued a_free a_nodeAt a_indexOf a_heap a_frameEnter a_framePc a_frameZone a_frameWait a_frameRegs) (hlt : ins < lN) (hgid : cp_id g < 256) (hfr : a_free fc = nI (cp_id g))
    (hvl : ∀ m, m ≠ cp_id g → vl' m = a_valueOf m) (hvn : vl' (cp_id g) = cp_v g) (how : ∀ m, m ≠ cp_id g → ow' m = a_ownerOf m) (hon : ow' (cp_id g) = nI (cp_o g))
    (hlv : ∀ x ∈ p0 ++ [z] ++ post, cp_k x = 3 → lv' (cp_o x) = a_leaveOf (cp_o x)) (hln : cp_k g = 3 → lv' (cp_o g) = nI (cp_id g)) (hpc : ∀ m, m ≠ cp_id g → pc' m = a_pcOf m) (hsn : ∀ m, m ≠ cp_id g → cp_rg sn' m = cp_rg a_snapshot m)
    (hgp : cp_k g = 1 → pc' (cp_id g) = nI (cp_pc g) ∧ cp_rg sn' (cp_id g) = cp_sn g) (hk4 : cp_k g = 0 ∨ cp_k g = 1 ∨ cp_k g = 2 ∨ cp_k g = 3) (hs : cp_k g = 1 ∨ cp_k g = 2 → cp_s g < cN) (hs0 : cp_k g = 0 → cp_s g < fN ∧ cp_o g = cp_id g) (ho : cp_o g < 256) (hof : ∀ i, i < fc → a_free i ≠ nI (cp_o g))
    (hq : cp_H sz' hp' qd' (upd a_labelOf (cp_id g) (a_labelOf (cp_id z) + 1))) (hq2 : ∀ n, qd' n ≠ 0 → a_queued n ≠ 0 ∨ ∃ y ∈ post, cp_id y = n ∧ cp_k y = 1)
    (hI : cp_CI hd' tl' pv' nx' src' qd' a_baseValue (p0 ++ [z] ++ g :: post))
    (hst : ∀ A ∈ st', (∃ B ∈ st, B.1 = A.1 ∧ B.2.1 = A.2.1 ∧ B.2.2.1 = A.2.2.1) ∨ (cp_k g = 0 ∧ A.1 = cp_id g ∧ A.2.1 = cp_s g ∧ A.2.2.1 = cp_v g))
    (hXR : cp_XR fe' fp' fz' fw' frg' lv' Xs') (hdl : Xs'.length ≤ (p0 ++ [z]).length + 1) (hRe : cp_Re (f_cells, a_bodySizes, a_opAt, a_aAt, a_bAt) a_baseValue g0 st' (p0 ++ [z] ++ [g])) :
    cp_M cN fN lN (ins + 1) fc g0 (p0 ++ [z] ++ [g]) post st' Xs' f_cells f_functions f_limit f_status (nI fc) f_first f_size sz' (nI Xs'.length) cur' (nI (ins + 1)) f_overflowed a_bodySizes a_opAt a_aAt a_bAt a_baseValue a_settledValue a_outputValue a_changedMark hd' tl' (upd a_kindOf (cp_id g) (cp_k g)) (upd a_subjectOf (cp_id g) (nI (cp_s g))) vl' (upd a_labelOf (cp_id g) (a_labelOf (cp_id z) + 1)) (upd (upd a_nextOf (cp_id g) (a_nextOf (cp_id z))) (cp_id z) (nI (cp_id g))) ow' lv' pc' sn' pv' nx' src' (upd a_alive (cp_id g) 1) qd' a_free a_nodeAt a_indexOf hp' fe' fp' fz' fw' frg' := by
  obtain ⟨hB, _, hN, hf, hne, hSt, _, _, _, hil, hCW, hg0, _, hov⟩ := hM
  obtain ⟨hB', hqg, hno⟩ := cp_B_app hB hlt hgid hfr hvl hvn how hon hlv hln hpc hsn hgp hk4 hs hs0 ho hof
  have hU' := cp_Lb_U hB'.2.2.1
  rw [cp_mid] at hU'
  refine ⟨?_, by rw [cp_mid]; exact hI, cp_Nx_ins hU' hN, by rw [hf, cp_hx_ne hne], ⟨_, _, rfl⟩, fun A hA => ?_, hXR, rfl, ?_, ?_, hCW, hg0, hRe, hov⟩
  · -- the queue may have grown
    obtain ⟨n0, hR, hL, hLc, _, hqk, hA, ⟨hF1, hF2⟩, hLq⟩ := hB'
    have hmq : ∀ y ∈ post, y ∈ p0 ++ [z] ++ [g] ++ post := fun y hy => List.mem_append.mpr (Or.inr hy)
    refine ⟨n0, hR, hL, hLc, hq, fun x hx h => ?_, hA, ⟨fun i hi => ?_, hF2⟩, fun n hn h => ?_⟩
    · rcases hq2 _ h with h | ⟨y, hy, e, k⟩
      · exact hqk x hx h
      · have := cp_U_inj (cp_Lb_U hL) hx (hmq y hy) e.symm
        rw [this]; exact k
    · obtain ⟨n, hn, e, hqn, hno'⟩ := hF1 i hi
      refine ⟨n, hn, e, ?_, hno'⟩
      by_cases h : qd' n = 0
      · exact h
      · rcases hq2 n h with h | ⟨y, hy, e2, _⟩
        · exact absurd hqn h
        · exact absurd e2 (hno' y (hmq y hy)).1
    · rcases hq2 n h with h | ⟨y, hy, e2, _⟩
      · exact hLq n hn h
      · have := hLc.1 y (hmq y hy)
        rw [e2] at this
        have h9 := n0.2.2.2.2.2.2.2.2.1
        have h7 := n0.2.2.2.2.2.2.1
        exact ⟨this.1, by omega⟩
  · rcases hst A hA with ⟨B, hBm, e1, e2, e3⟩ | ⟨k, e1, e2, e3⟩
    · rw [← e1, ← e2, ← e3]
      exact cp_SP_app hgid hfr (hSt B hBm) (fun m h => pk_un h) (fun m h => pk_un h) hvl
    · rw [e1, e2, e3]
      refine ⟨hgid, pk_us, hvn, (hs0 k).1, fun i hi e => ?_, by rw [pk_us]; exact k⟩
      have := hB.2.2.2.2.2.2.2.1.2 i fc (by omega) (by omega) (by rw [e, hfr])
      omega
  · have : (p0 ++ [z] ++ [g]).length = (p0 ++ [z]).length + 1 := by simp
    omega
  · have : (p0 ++ [z] ++ [g]).length = (p0 ++ [z]).length + 1 := by simp
    omega
end
end
section
/-! ===== doRead ===== -/
section
variable {f_cells f_functions f_limit f_status f_freeCount f_first f_size f_heapSize f_depth f_cur f_inserted f_overflowed : Int32} {a_bodySizes a_opAt a_aAt a_bAt a_baseValue a_settledValue a_outputValue a_changedMark a_cellHead a_cellTail a_kindOf a_subjectOf a_valueOf a_labelOf a_nextOf a_ownerOf a_leaveOf a_pcOf a_snapshot a_cellPrev a_cellNext a_sourceOf a_alive a_queued a_free a_nodeAt a_indexOf a_heap a_frameEnter a_framePc a_frameZone a_frameWait a_frameRegs : Nat → Int32}
/-- numbers of the top frame -/
theorem cp_top {cN fN lN ins fc : Nat} {g0 : cp_N} {pre post : List cp_N} {rest : List cp_F} {X : cp_X} {Xs : List cp_X} (hM : cp_M cN fN lN ins fc g0 pre post (X.1 :: rest) (X :: Xs) f_cells f_functions f_limit f_status f_freeCount f_first f_size f_heapSize f_depth f_cur f_inserted f_overflowed a_bodySizes a_opAt a_aAt a_bAt a_baseValue a_settledValue a_outputValue a_changedMark a_cellHead a_cellTail a_kindOf a_subjectOf a_valueOf a_labelOf a_nextOf a_ownerOf a_leaveOf a_pcOf a_snapshot a_cellPrev a_cellNext a_sourceOf a_alive a_queued a_free a_nodeAt a_indexOf a_heap a_frameEnter a_framePc a_frameZone a_frameWait a_frameRegs) :
    Xs.length < 250 ∧ X.1.1 < 256 ∧ X.1.2.1 < fN ∧ fN ≤ 6 ∧ pre.length ≤ 240 ∧ f_depth - 1 = nI Xs.length ∧ ins ≤ lN ∧ lN ≤ 120 ∧ ins ≤ pre.length ∧ (∀ i, i < fc → a_free i ≠ nI X.1.1) ∧ a_subjectOf X.1.1 = nI X.1.2.1 ∧ a_valueOf X.1.1 = X.1.2.2.1 := by
  obtain ⟨hB, _, _, _, _, hSt, _, hdp, hdl, hil, _⟩ := hM
  obtain ⟨⟨n1, n2, n3, n4, n5, n6, n7, n8, n9, n10, n11, n12, n13⟩, _⟩ := hB
  obtain ⟨s1, s2, s3, s4, s5, s6⟩ := hSt X.1 List.mem_cons_self
  have h1 : (pre ++ post).length = pre.length + post.length := List.length_append
  have h2 : (X :: Xs).length = Xs.length + 1 := rfl
  refine ⟨by omega, s1, s4, n5, by omega, ?_, n9, n7, hil, s5, s2, s3⟩
  rw [hdp, h2]; exact nI_pred _
/-- the instruction of the top frame -/
theorem cp_ins {C : cp_C} {fN : Nat} {A : cp_F} (hCW : cp_CW C fN) (hf : A.2.1 < fN) (hfN : fN ≤ 6) (hpc : A.2.2.2.1 < cp_bz C A.2.1) :
    A.2.2.2.1 < 16 ∧ A.2.1 * 16 + A.2.2.2.1 < 96 ∧ C.2.1 A.2.1 = nI (cp_bz C A.2.1) ∧ cp_bz C A.2.1 ≤ 16 ∧ (∃ o, o ≤ 10 ∧ cp_op C A = nI o) ∧ (cp_op C A = 10 → cp_ra C A < fN ∧ C.2.2.2.1 (A.2.1 * 16 + A.2.2.2.1) = nI (cp_ra C A)) ∧
    (¬ cp_op C A = 10 → cp_ra C A < 4 ∧ C.2.2.2.1 (A.2.1 * 16 + A.2.2.2.1) = nI (cp_ra C A)) ∧ (cp_op C A = 7 → ∃ b, b ≤ 15 ∧ cp_rb C A = nI b) ∧
    (¬ cp_op C A = 0 → ¬ cp_op C A = 6 → ¬ cp_op C A = 7 → ∃ b, b < 4 ∧ cp_rb C A = nI b) := by
  obtain ⟨h1, h2, h3⟩ := hCW _ hf
  obtain ⟨k1, k2, k3, k4, k5⟩ := h3 _ hpc
  refine ⟨by omega, by omega, h1, h2, k1, fun h => ?_, fun h => ?_, k4, k5⟩
  · obtain ⟨a, ha, e⟩ := k2 h
    unfold cp_ra
    rw [e, nI_clamp (by omega)]
    exact ⟨ha, rfl⟩
  · obtain ⟨a, ha, e⟩ := k3 h
    unfold cp_ra
    rw [e, nI_clamp (by omega)]
    exact ⟨ha, rfl⟩
/-- an entry too many -/
theorem cp_Ov_of {C : cp_C} {base : Nat → Int32} {g0 g : cp_N} {st st' : List cp_F} {pre : List cp_N} {lN : Nat} (hRe : cp_Re C base g0 st pre) (hc : cp_OC C st g st') (hk : cp_k g = 1 → cp_v g = cp_sto base pre (cp_s g)) (hl : lN ≤ pre.length) : cp_Ov C base g0 lN :=
  ⟨st', pre ++ [g], cp_Re_ms hRe (Or.inr ⟨g, hc, hk, rfl⟩), by have : (pre ++ [g]).length = pre.length + 1 := by simp
                                                               omega⟩
theorem cp_E_mem {C : cp_C} : ∀ (Xs : List cp_X) (st : List cp_F) (post : List cp_N), cp_E C Xs st post → ∀ Y ∈ Xs, Y.1 ∈ st
  | [], _, _, h => h.elim
  | X :: Xs, st, post, h => by
    obtain ⟨rest, rfl, h⟩ := h
    have key : ∀ Y ∈ Xs, Y.1 ∈ rest := by
      rcases h with ⟨_, ⟨rfl, _⟩ | ⟨Y, Ys, _, _, _, h⟩⟩ | ⟨z, O, p1, V, st', W, p', _, _, _, _, _, _, _, _, e, _, _, ⟨rfl, _⟩ | ⟨Y, Ys, _, _, h⟩⟩
      · intro Y hY; cases hY
      · exact cp_E_mem Xs rest post h
      · intro Y hY; cases hY
      · intro Y' hY
        rw [e]
        exact List.mem_append.mpr (Or.inr (cp_E_mem Xs st' p' h Y' hY))
    intro Y hY
    rcases List.mem_cons.mp hY with rfl | hY
    · exact List.mem_cons_self
    · exact List.mem_cons_of_mem _ (key Y hY)
theorem cp_Lb_ins {cN fN lN ins fc : Nat} {p0 post : List cp_N} {z g : cp_N} (hB : cp_B cN fN lN ins fc (p0 ++ [z]) post f_cells f_functions f_limit f_inserted f_freeCount f_heapSize a_kindOf a_subjectOf a_valueOf a_labelOf a_ownerOf a_leaveOf a_pcOf a_snapshot a_alive a_queued a_free a_heap) (hlt : ins < lN) (hno : ∀ x ∈ p0 ++ [z] ++ post, cp_id x ≠ cp_id g) : cp_Lb (upd a_labelOf (cp_id g) (a_labelOf (cp_id z) + 1)) (p0 ++ [z] ++ g :: post) := by
  obtain ⟨r1, r2, r3, r4, r5, r6⟩ := cp_room hB hlt
  have hlz : ∀ x ∈ p0 ++ [z] ++ post, upd a_labelOf (cp_id g) (a_labelOf (cp_id z) + 1) (cp_id x) = a_labelOf (cp_id x) := fun x hx => pk_un (hno x hx)
  obtain ⟨l1, l2, l3⟩ := List.pairwise_append.mp hB.2.2.1
  refine List.pairwise_append.mpr ⟨?_, List.pairwise_cons.mpr ⟨?_, ?_⟩, ?_⟩
  · refine List.Pairwise.imp_of_mem (fun {a b} ha hb hab => ?_) l1
    rw [hlz a (List.mem_append.mpr (Or.inl ha)), hlz b (List.mem_append.mpr (Or.inl hb))]; exact hab
  · intro b hb
    rw [hlz b (List.mem_append.mpr (Or.inr hb)), pk_us, r1]; exact r5 b hb
  · refine List.Pairwise.imp_of_mem (fun {a b} ha hb hab => ?_) l2
    rw [hlz a (List.mem_append.mpr (Or.inr ha)), hlz b (List.mem_append.mpr (Or.inr hb))]; exact hab
  · intro a ha b hb
    rw [hlz a (List.mem_append.mpr (Or.inl ha))]
    rcases List.mem_cons.mp hb with rfl | hb
    · rw [pk_us, r1]; have := r6 a ha; omega
    · rw [hlz b (List.mem_append.mpr (Or.inr hb))]; exact l3 a ha b hb
/-- the top frame's row of arrays behind a step that changes pc and registers -/
theorem cp_XR_top {X : cp_X} {Xs : List cp_X} {fp' frg' lv' : Nat → Int32} {p : Nat} {r : Nat → Int32} (h : cp_XR a_frameEnter a_framePc a_frameZone a_frameWait a_frameRegs a_leaveOf (X :: Xs)) (hp : fp' Xs.length = nI p) (hp63 : p ≤ 63) (hr : cp_rg frg' Xs.length = r)
    (ho : ∀ i, i < Xs.length → fp' i = a_framePc i ∧ cp_rg frg' i = cp_rg a_frameRegs i) (hl : ∀ Y ∈ X :: Xs, lv' Y.1.1 = a_leaveOf Y.1.1) : cp_XR a_frameEnter fp' a_frameZone a_frameWait frg' lv' ((cp_ps X.1 p r, X.2) :: Xs) := by
  obtain ⟨x1, x2, x3, x4, x5, x6, x7, x8, x9⟩ := h
  refine ⟨x1, hp, hp63, x4, x5, hr, (hl X List.mem_cons_self).trans x7, x8, cp_XR_fr Xs (fun i hi => ⟨rfl, (ho i hi).1, rfl, rfl, (ho i hi).2⟩) (fun Y hY => hl Y (List.mem_cons_of_mem _ hY)) x9⟩
theorem cp_mx_step {X X' : cp_X} {Xs : List cp_X} {p : Nat} (h16 : X.1.2.2.2.1 < 16) (e : X'.1.2.2.2.1 = X.1.2.2.2.1 + 1 + p) (hw : cp_xw X' = cp_xw X) : cp_mx (X' :: Xs) + 2 ≤ cp_mx (X :: Xs) := by
  show 2 * (17 - min X'.1.2.2.2.1 16) + (if cp_xw X' = -1 then 0 else 1) + cp_mx Xs + 2 ≤ 2 * (17 - min X.1.2.2.2.1 16) + (if cp_xw X = -1 then 0 else 1) + cp_mx Xs
  rw [e, hw]
  omega
theorem cp_doRead {pst : SX → Prop} {cN fN lN ins fc : Nat} {g0 : cp_N} {p0 post : List cp_N} {z : cp_N} {rest : List cp_F} {X : cp_X} {Xs : List cp_X} (hM : cp_M cN fN lN ins fc g0 (p0 ++ [z]) post (X.1 :: rest) (X :: Xs) f_cells f_functions f_limit f_status f_freeCount f_first f_size f_heapSize f_depth f_cur f_inserted f_overflowed a_bodySizes a_opAt a_aAt a_bAt a_baseValue a_settledValue a_outputValue a_changedMark a_cellHead a_cellTail a_kindOf a_subjectOf a_valueOf a_labelOf a_nextOf a_ownerOf a_leaveOf a_pcOf a_snapshot a_cellPrev a_cellNext a_sourceOf a_alive a_queued a_free a_nodeAt a_indexOf a_heap a_frameEnter a_framePc a_frameZone a_frameWait a_frameRegs) (hcur : f_cur = nI (cp_id z)) (hxw : cp_xw X = -1)
    (hE : cp_E (f_cells, a_bodySizes, a_opAt, a_aAt, a_bAt) (X :: Xs) (X.1 :: rest) post) (hpc : X.1.2.2.2.1 < cp_bz (f_cells, a_bodySizes, a_opAt, a_aAt, a_bAt) X.1.2.1) (hop : cp_op (f_cells, a_bodySizes, a_opAt, a_aAt, a_bAt) X.1 = 8)
    (K : ∀ (q_freeCount q_first q_heapSize q_depth q_cur q_inserted q_overflowed : Int32) (r_cellHead r_cellTail r_kindOf r_subjectOf r_valueOf r_labelOf r_nextOf r_ownerOf r_leaveOf r_pcOf r_snapshot r_cellPrev r_cellNext r_sourceOf r_alive r_queued r_heap r_frameEnter r_framePc r_frameZone r_frameWait r_frameRegs : Nat → Int32), cp_Sx cN fN lN g0 (cp_mu lN ins post (X :: Xs) - 1) f_cells f_functions f_limit f_status q_freeCount q_first f_size q_heapSize q_depth q_cur q_inserted q_overflowed a_bodySizes a_opAt a_aAt a_bAt a_baseValue a_settledValue a_outputValue a_changedMark r_cellHead r_cellTail r_kindOf r_subjectOf r_valueOf r_labelOf r_nextOf r_ownerOf r_leaveOf r_pcOf r_snapshot r_cellPrev r_cellNext r_sourceOf r_alive r_queued a_free a_nodeAt a_indexOf r_heap r_frameEnter r_framePc r_frameZone r_frameWait r_frameRegs → pst (f_cells, f_functions, f_limit, f_status, q_freeCount, q_first, f_size, q_heapSize, q_depth, q_cur, q_inserted, q_overflowed, a_bodySizes, a_opAt, a_aAt, a_bAt, a_baseValue, a_settledValue, a_outputValue, a_changedMark, r_cellHead, r_cellTail, r_kindOf, r_subjectOf, r_valueOf, r_labelOf, r_nextOf, r_ownerOf, r_leaveOf, r_pcOf, r_snapshot, r_cellPrev, r_cellNext, r_sourceOf, r_alive, r_queued, a_free, a_nodeAt, a_indexOf, r_heap, r_frameEnter, r_framePc, r_frameZone, r_frameWait, r_frameRegs)) (KO : ∀ (q_freeCount q_first q_heapSize q_depth q_cur q_inserted q_overflowed : Int32) (r_cellHead r_cellTail r_kindOf r_subjectOf r_valueOf r_labelOf r_nextOf r_ownerOf r_leaveOf r_pcOf r_snapshot r_cellPrev r_cellNext r_sourceOf r_alive r_queued r_heap r_frameEnter r_framePc r_frameZone r_frameWait r_frameRegs : Nat → Int32), cp_Ov (f_cells, a_bodySizes, a_opAt, a_aAt, a_bAt) a_baseValue g0 lN → q_overflowed = 1 → pst (f_cells, f_functions, f_limit, f_status, q_freeCount, q_first, f_size, q_heapSize, q_depth, q_cur, q_inserted, q_overflowed, a_bodySizes, a_opAt, a_aAt, a_bAt, a_baseValue, a_settledValue, a_outputValue, a_changedMark, r_cellHead, r_cellTail, r_kindOf, r_subjectOf, r_valueOf, r_labelOf, r_nextOf, r_ownerOf, r_leaveOf, r_pcOf, r_snapshot, r_cellPrev, r_cellNext, r_sourceOf, r_alive, r_queued, a_free, a_nodeAt, a_indexOf, r_heap, r_frameEnter, r_framePc, r_frameZone, r_frameWait, r_frameRegs)) :
    wpX_doRead pst (f_cells, f_functions, f_limit, f_status, f_freeCount, f_first, f_size, f_heapSize, f_depth, f_cur, f_inserted, f_overflowed, a_bodySizes, a_opAt, a_aAt, a_bAt, a_baseValue, a_settledValue, a_outputValue, a_changedMark, a_cellHead, a_cellTail, a_kindOf, a_subjectOf, a_valueOf, a_labelOf, a_nextOf, a_ownerOf, a_leaveOf, a_pcOf, a_snapshot, a_cellPrev, a_cellNext, a_sourceOf, a_alive, a_queued, a_free, a_nodeAt, a_indexOf, a_heap, a_frameEnter, upd a_framePc Xs.length (nI (X.1.2.2.2.1 + 1)), a_frameZone, a_frameWait, a_frameRegs) (nI Xs.length) (nI (X.1.2.1 * 16 + X.1.2.2.2.1)) (nI X.1.2.2.2.1) := by
  obtain ⟨t1, t2, t3, t4, t5, t6, t7, t8, t9, t10, t11, t12⟩ := cp_top hM
  have hM0 := hM
  obtain ⟨hB, hI, hN, hf, hne, hSt, hXR, hdp, hdl, hil, hCW, hg0, hRe, hov⟩ := hM
  obtain ⟨i1, i2, i3, i4, i5, i6, i7, i8, i9⟩ := cp_ins hCW t3 t4 hpc
  obtain ⟨ra4, era⟩ := i7 (by rw [hop]; decide)
  obtain ⟨b, hb, eb⟩ := i9 (by rw [hop]; decide) (by rw [hop]; decide) (by rw [hop]; decide)
  obtain ⟨x1, x2, x3, x4, x5, x6, x7, x8, x9⟩ := hXR
  have n1 := hB.1.1
  have n2 := hB.1.2.1
  have n3 := hB.1.2.2.1
  have es : (nI (X.1.2.1 * 16 + X.1.2.2.2.1)).toNatClampNeg = X.1.2.1 * 16 + X.1.2.2.2.1 := nI_clamp (by omega)
  have ins_ : vp_in (nI (X.1.2.1 * 16 + X.1.2.2.2.1)) 96 := vp_in_nI i2 (by decide)
  have ed : (nI Xs.length).toNatClampNeg = Xs.length := nI_clamp (by omega)
  have ind : vp_in (nI Xs.length) 256 := vp_in_nI (by omega) (by decide)
  have eb' : a_bAt (X.1.2.1 * 16 + X.1.2.2.2.1) = nI b := eb
  have hvb : a_frameRegs (Xs.length * 4 + b) = cp_vb (f_cells, a_bodySizes, a_opAt, a_aAt, a_bAt) X.1 := by
    unfold cp_vb
    rw [eb, nI_clamp (by omega), ← x6, cp_rg_at hb]
  obtain ⟨hc1, hc2⟩ := cp_ad_nI n2 n3 (cp_vb (f_cells, a_bodySizes, a_opAt, a_aAt, a_bAt) X.1)
  rw [← n1] at hc1 hc2
  refine nm_r (e' := nI (Xs.length * 4)) (pk_mul _ 4) (And.intro ins_ ?_)
  rw [es, eb', nI_add, nI_clamp (n := Xs.length * 4 + b) (by omega)]
  refine And.intro (vp_in_nI (by omega) (by decide)) ?_
  rw [hvb]
  refine cp_address (by rw [n1]; exact nI_ne0 (by omega) (by omega)) ?_
  rw [hc1, ed, x1]
  refine And.intro ind ?_
  generalize hcc : cp_adr f_cells (cp_vb (f_cells, a_bodySizes, a_opAt, a_aAt, a_bAt) X.1) = c at hc2 ⊢
  by_cases hfull : ins = lN
  · refine cp_append_full (by rw [hB.1.2.2.2.2.2.1, hB.1.2.2.2.2.2.2.2.1, hfull]; exact Int32.le_refl _) ?_
    refine br_f (by decide) ?_
    refine KO _ _ _ _ _ _ _ _ _ _ _ _ _ _ _ _ _ _ _ _ _ _ _ _ _ _ _ _ _ ?_ rfl
    exact cp_Ov_of (g := (0, 1, c, cp_sto a_baseValue (p0 ++ [z]) c, X.1.1, X.1.2.2.2.1, X.1.2.2.2.2)) hRe ⟨X.1, rest, rfl, Or.inl ⟨hpc, hop, rfl, hcc.symm, rfl, rfl, rfl, rfl⟩⟩ (fun _ => rfl) (by omega)
  · have hlt : ins < lN := by omega
    have hfc : ∃ fc', fc = fc' + 1 := ⟨fc - 1, by have := hB.1.2.2.2.2.2.2.2.2.2.2.1; omega⟩
    obtain ⟨fc, rfl⟩ := hfc
    obtain ⟨n, hn, en, hqn, hno⟩ := hB.2.2.2.2.2.2.2.1.1 fc (by omega)
    have hzm : z ∈ p0 ++ [z] ++ post := List.mem_append.mpr (Or.inl (List.mem_append.mpr (Or.inr List.mem_cons_self)))
    have hz := (hB.2.1 z hzm).1.1
    refine cp_append hB.1.2.2.2.2.2.2.2.2.2.1 (by have := hB.1.2.2.2.2.2.2.2.2.2.2.2.1; omega) hB.1.2.2.2.2.2.2.2.1 hB.1.2.2.2.2.2.1 hlt t8 en hn hcur hz ?_
    refine br_t (nI_pos' (by omega)) ?_
    rw [cp_upd_same hqn]
    -- the new node
    have hvv : ∃ v, v = cp_cv (a_baseValue c) (cp_fl c (p0 ++ [z])) := ⟨_, rfl⟩
    obtain ⟨v, hv⟩ := hvv
    generalize hg : ((n, 1, c, v, X.1.1, X.1.2.2.2.1, X.1.2.2.2.2) : cp_N) = g
    have gid : cp_id g = n := by rw [← hg]
    have gk : cp_k g = 1 := by rw [← hg]
    have gs : cp_s g = c := by rw [← hg]
    have gv : cp_v g = v := by rw [← hg]
    have go : cp_o g = X.1.1 := by rw [← hg]
    have gp : cp_pc g = X.1.2.2.2.1 := by rw [← hg]
    have gsn : cp_sn g = X.1.2.2.2.2 := by rw [← hg]
    clear hg
    subst gid gs gv
    have hgn : ∀ x ∈ p0 ++ [z] ++ post, cp_id x ≠ cp_id g := fun x hx => (hno x hx).1
    have hL := cp_Lb_ins hB hlt hgn
    have hR0 : ∀ x ∈ p0 ++ [z] ++ post, cp_R0 (upd a_kindOf (cp_id g) 1) (upd a_subjectOf (cp_id g) (nI (cp_s g))) (upd a_valueOf (cp_id g) 0) x := by
      intro x hx
      obtain ⟨⟨y1, y2, y3, y4, y5⟩, _⟩ := hB.2.1 x hx
      have e := hgn x hx
      exact ⟨y1, by rw [pk_un e]; exact y2, by rw [pk_un e]; exact y3, by rw [pk_un e]; exact y4, y5⟩
    have hlen : (p0 ++ [z] ++ post).length ≤ 255 := by have := hB.1.2.2.2.2.2.2.2.2.2.2.2.2; omega
    refine cp_linkA (p := p0 ++ [z]) (q := post) (g := g) (Or.inl gk) (by omega) hn pk_us hlen hR0 hL hI ?_
    intro hd' tl' pv' nx' src' kD kO kS1 kS2 kS3
    have hRp : ∀ x ∈ cp_fl (cp_s g) (p0 ++ [z]), cp_id x < 256 ∧ upd a_valueOf (cp_id g) 0 (cp_id x) = cp_v x := fun x hx => by
      have := hR0 x (List.mem_append.mpr (Or.inl (cp_fl_mem hx).1))
      exact ⟨this.1, this.2.2.2.1⟩
    have egid : (nI (cp_id g)).toNatClampNeg = cp_id g := nI_clamp (by omega)
    have ing : vp_in (nI (cp_id g)) 256 := vp_in_nI hn (by decide)
    refine cp_governing (c := cp_s g) hn (by rw [kS3]; exact cp_ok_lw _ _ (Or.inl rfl) (fun x hx => (hRp x hx).1)) (Or.inr ⟨pk_us, by omega⟩) ?_
    rw [kS3, cp_gv_cv hRp, ← hv, egid]
    refine And.intro ing (nm_e (And.intro ing (nm_e ⟨5, ?_⟩)))
    refine cp_read_loop4 (by omega) hn ?_ 4 0 5 _ rfl (by omega) (fun q hq => by omega) (fun _ _ => rfl)
    intro sn' hs1 hs2
    have era' : a_aAt (X.1.2.1 * 16 + X.1.2.2.2.1) = nI (cp_ra (f_cells, a_bodySizes, a_opAt, a_aAt, a_bAt) X.1) := era
    rw [es, era', nI_add, nI_clamp (n := Xs.length * 4 + cp_ra (f_cells, a_bodySizes, a_opAt, a_aAt, a_bAt) X.1) (by omega)]
    refine And.intro ins_ (And.intro (vp_in_nI (by omega) (by decide)) (nm_e ?_))
    have hXm := cp_E_mem _ _ _ hE
    have hlvX : ∀ Y ∈ X :: Xs, upd a_leaveOf (cp_id g) (-1) Y.1.1 = a_leaveOf Y.1.1 := fun Y hY => pk_un (fun e => (hSt Y.1 (hXm Y hY)).2.2.2.2.1 fc (by omega) (by rw [en, e]))
    have hXR' := cp_XR_top (X := X) (Xs := Xs) (fp' := upd a_framePc Xs.length (nI (X.1.2.2.2.1 + 1))) (frg' := upd a_frameRegs (Xs.length * 4 + cp_ra (f_cells, a_bodySizes, a_opAt, a_aAt, a_bAt) X.1) (cp_v g)) (lv' := upd a_leaveOf (cp_id g) (-1)) (p := X.1.2.2.2.1 + 1)
      ⟨x1, x2, x3, x4, x5, x6, x7, x8, x9⟩ pk_us (by omega) (by rw [cp_rg_upd ra4, x6]) (fun i hi => ⟨pk_un (by omega), cp_rg_ne ra4 (by omega)⟩) hlvX
    have efl : cp_fl (cp_s g) (p0 ++ [z] ++ g :: post) = cp_fl (cp_s g) (p0 ++ [z]) ++ g :: cp_fl (cp_s g) post := by rw [cp_fl_app, cp_fl_y (cp_A_iff.mpr ⟨Or.inl gk, rfl⟩)]
    have hn2 : ¬ cp_k g = 2 := by rw [gk]; decide
    have hCI : cp_CI hd' tl' pv' nx' src' a_queued a_baseValue (p0 ++ [z] ++ g :: post) := by
      intro c' hc'
      by_cases e : c' = cp_s g
      · subst e
        refine ⟨kD _ hc', ?_, ?_⟩
        · rw [efl]
          have := (cp_So_app _ _ _).mp kS1
          refine (cp_So_app _ _ _).mpr ⟨this.1, this.2.1, ?_⟩
          rw [if_neg hn2]; exact kS2
        · rw [efl]
          have h := (hI _ hc').2.2
          rw [cp_fl_app] at h
          have := (cp_SQ_app _ _ _).mp h
          refine (cp_SQ_app _ _ _).mpr ⟨this.1, fun _ h => absurd hv h, ?_⟩
          rw [if_neg hn2]; exact this.2
      · exact ⟨kD _ hc', kO c' hc' e⟩
    have hOC : cp_OC (f_cells, a_bodySizes, a_opAt, a_aAt, a_bAt) (X.1 :: rest) g (cp_ps X.1 (X.1.2.2.2.1 + 1) (upd X.1.2.2.2.2 (cp_ra (f_cells, a_bodySizes, a_opAt, a_aAt, a_bAt) X.1) (cp_v g)) :: rest) :=
      ⟨X.1, rest, rfl, Or.inl ⟨hpc, hop, gk, hcc.symm, go, gp, gsn, rfl⟩⟩
    have hMn := cp_M_app (g := g) (st' := cp_ps X.1 (X.1.2.2.2.1 + 1) (upd X.1.2.2.2.2 (cp_ra (f_cells, a_bodySizes, a_opAt, a_aAt, a_bAt) X.1) (cp_v g)) :: rest) (Xs' := (cp_ps X.1 (X.1.2.2.2.1 + 1) (upd X.1.2.2.2.2 (cp_ra (f_cells, a_bodySizes, a_opAt, a_aAt, a_bAt) X.1) (cp_v g)), X.2) :: Xs)
      (vl' := upd (upd a_valueOf (cp_id g) 0) (cp_id g) (cp_v g)) (ow' := upd a_ownerOf (cp_id g) (nI X.1.1)) (lv' := upd a_leaveOf (cp_id g) (-1)) (pc' := upd a_pcOf (cp_id g) (nI X.1.2.2.2.1)) (sn' := sn') (cur' := nI (cp_id g)) (sz' := f_heapSize) (hp' := a_heap) (qd' := a_queued)
      hM0 hlt hn en (fun m h => by rw [pk_un h, pk_un h]) pk_us (fun m h => pk_un h) (by rw [pk_us, go]) (fun x hx _ => pk_un (hno x hx).2) (fun k => by rw [gk] at k; exact absurd k (by decide)) (fun m h => pk_un h) hs2
      (fun _ => ⟨by rw [pk_us, gp], by rw [hs1, gsn]; exact x6⟩) (Or.inr (Or.inl gk)) (fun _ => hc2) (fun k => by rw [gk] at k; exact absurd k (by decide)) (by rw [go]; exact t2) (fun i hi => by rw [go]; exact t10 i (by omega))
      (cp_H_lab (fun m _ h => pk_un (fun e => by rw [e] at h; exact h hqn)) hB.2.2.2.2.1) (fun _ h => Or.inl h) hCI
      (fun A hA => Or.inl (by
        rcases List.mem_cons.mp hA with rfl | hA
        · exact ⟨X.1, List.mem_cons_self, rfl, rfl, rfl⟩
        · exact ⟨A, List.mem_cons_of_mem _ hA, rfl, rfl, rfl⟩))
      hXR' (by have : (X :: Xs).length = Xs.length + 1 := rfl; have : ((cp_ps X.1 (X.1.2.2.2.1 + 1) (upd X.1.2.2.2.2 (cp_ra (f_cells, a_bodySizes, a_opAt, a_aAt, a_bAt) X.1) (cp_v g)), X.2) :: Xs).length = Xs.length + 1 := rfl; omega)
      (cp_Re_ms hRe (Or.inr ⟨g, hOC, fun _ => hv, rfl⟩))
    refine K _ _ _ _ _ _ _ _ _ _ _ _ _ _ _ _ _ _ _ _ _ _ _ _ _ _ _ _ _ ⟨ins + 1, fc, p0 ++ [z] ++ [g], post, cp_ps X.1 (X.1.2.2.2.1 + 1) (upd X.1.2.2.2.2 (cp_ra (f_cells, a_bodySizes, a_opAt, a_aAt, a_bAt) X.1) (cp_v g)) :: rest, (cp_ps X.1 (X.1.2.2.2.1 + 1) (upd X.1.2.2.2.2 (cp_ra (f_cells, a_bodySizes, a_opAt, a_aAt, a_bAt) X.1) (cp_v g)), X.2) :: Xs, ?_, Or.inl ⟨?_, ?_, ⟨(cp_ps X.1 (X.1.2.2.2.1 + 1) (upd X.1.2.2.2.2 (cp_ra (f_cells, a_bodySizes, a_opAt, a_aAt, a_bAt) X.1) (cp_v g)), X.2), Xs, rfl, hxw⟩, ?_⟩⟩
    · have := cp_mx_step (X := X) (X' := (cp_ps X.1 (X.1.2.2.2.1 + 1) (upd X.1.2.2.2.2 (cp_ra (f_cells, a_bodySizes, a_opAt, a_aAt, a_bAt) X.1) (cp_v g)), X.2)) (Xs := Xs) (p := 0) i1 rfl rfl
      unfold cp_mu
      omega
    · rw [gk] at hMn
      rw [hdp]
      exact hMn
    · exact (cp_lt_snoc _ _ _).symm
    · exact cp_E_top hE rfl rfl rfl rfl rfl
end
end
section
/-! ===== doWrite ===== -/
section
variable {f_cells f_functions f_limit f_status f_freeCount f_first f_size f_heapSize f_depth f_cur f_inserted f_overflowed : Int32} {a_bodySizes a_opAt a_aAt a_bAt a_baseValue a_settledValue a_outputValue a_changedMark a_cellHead a_cellTail a_kindOf a_subjectOf a_valueOf a_labelOf a_nextOf a_ownerOf a_leaveOf a_pcOf a_snapshot a_cellPrev a_cellNext a_sourceOf a_alive a_queued a_free a_nodeAt a_indexOf a_heap a_frameEnter a_framePc a_frameZone a_frameWait a_frameRegs : Nat → Int32}
theorem cp_doWrite {pst : SX → Prop} {cN fN lN ins fc : Nat} {g0 : cp_N} {p0 post : List cp_N} {z : cp_N} {rest : List cp_F} {X : cp_X} {Xs : List cp_X} (hM : cp_M cN fN lN ins fc g0 (p0 ++ [z]) post (X.1 :: rest) (X :: Xs) f_cells f_functions f_limit f_status f_freeCount f_first f_size f_heapSize f_depth f_cur f_inserted f_overflowed a_bodySizes a_opAt a_aAt a_bAt a_baseValue a_settledValue a_outputValue a_changedMark a_cellHead a_cellTail a_kindOf a_subjectOf a_valueOf a_labelOf a_nextOf a_ownerOf a_leaveOf a_pcOf a_snapshot a_cellPrev a_cellNext a_sourceOf a_alive a_queued a_free a_nodeAt a_indexOf a_heap a_frameEnter a_framePc a_frameZone a_frameWait a_frameRegs) (hcur : f_cur = nI (cp_id z)) (hxw : cp_xw X = -1)
    (hE : cp_E (f_cells, a_bodySizes, a_opAt, a_aAt, a_bAt) (X :: Xs) (X.1 :: rest) post) (hpc : X.1.2.2.2.1 < cp_bz (f_cells, a_bodySizes, a_opAt, a_aAt, a_bAt) X.1.2.1) (hop : cp_op (f_cells, a_bodySizes, a_opAt, a_aAt, a_bAt) X.1 = 9)
    (K : ∀ (q_freeCount q_first q_heapSize q_depth q_cur q_inserted q_overflowed : Int32) (r_cellHead r_cellTail r_kindOf r_subjectOf r_valueOf r_labelOf r_nextOf r_ownerOf r_leaveOf r_pcOf r_snapshot r_cellPrev r_cellNext r_sourceOf r_alive r_queued r_heap r_frameEnter r_framePc r_frameZone r_frameWait r_frameRegs : Nat → Int32), cp_Sx cN fN lN g0 (cp_mu lN ins post (X :: Xs) - 1) f_cells f_functions f_limit f_status q_freeCount q_first f_size q_heapSize q_depth q_cur q_inserted q_overflowed a_bodySizes a_opAt a_aAt a_bAt a_baseValue a_settledValue a_outputValue a_changedMark r_cellHead r_cellTail r_kindOf r_subjectOf r_valueOf r_labelOf r_nextOf r_ownerOf r_leaveOf r_pcOf r_snapshot r_cellPrev r_cellNext r_sourceOf r_alive r_queued a_free a_nodeAt a_indexOf r_heap r_frameEnter r_framePc r_frameZone r_frameWait r_frameRegs → pst (f_cells, f_functions, f_limit, f_status, q_freeCount, q_first, f_size, q_heapSize, q_depth, q_cur, q_inserted, q_overflowed, a_bodySizes, a_opAt, a_aAt, a_bAt, a_baseValue, a_settledValue, a_outputValue, a_changedMark, r_cellHead, r_cellTail, r_kindOf, r_subjectOf, r_valueOf, r_labelOf, r_nextOf, r_ownerOf, r_leaveOf, r_pcOf, r_snapshot, r_cellPrev, r_cellNext, r_sourceOf, r_alive, r_queued, a_free, a_nodeAt, a_indexOf, r_heap, r_frameEnter, r_framePc, r_frameZone, r_frameWait, r_frameRegs)) (KO : ∀ (q_freeCount q_first q_heapSize q_depth q_cur q_inserted q_overflowed : Int32) (r_cellHead r_cellTail r_kindOf r_subjectOf r_valueOf r_labelOf r_nextOf r_ownerOf r_leaveOf r_pcOf r_snapshot r_cellPrev r_cellNext r_sourceOf r_alive r_queued r_heap r_frameEnter r_framePc r_frameZone r_frameWait r_frameRegs : Nat → Int32), cp_Ov (f_cells, a_bodySizes, a_opAt, a_aAt, a_bAt) a_baseValue g0 lN → q_overflowed = 1 → pst (f_cells, f_functions, f_limit, f_status, q_freeCount, q_first, f_size, q_heapSize, q_depth, q_cur, q_inserted, q_overflowed, a_bodySizes, a_opAt, a_aAt, a_bAt, a_baseValue, a_settledValue, a_outputValue, a_changedMark, r_cellHead, r_cellTail, r_kindOf, r_subjectOf, r_valueOf, r_labelOf, r_nextOf, r_ownerOf, r_leaveOf, r_pcOf, r_snapshot, r_cellPrev, r_cellNext, r_sourceOf, r_alive, r_queued, a_free, a_nodeAt, a_indexOf, r_heap, r_frameEnter, r_framePc, r_frameZone, r_frameWait, r_frameRegs)) :
    wpX_doWrite pst (f_cells, f_functions, f_limit, f_status, f_freeCount, f_first, f_size, f_heapSize, f_depth, f_cur, f_inserted, f_overflowed, a_bodySizes, a_opAt, a_aAt, a_bAt, a_baseValue, a_settledValue, a_outputValue, a_changedMark, a_cellHead, a_cellTail, a_kindOf, a_subjectOf, a_valueOf, a_labelOf, a_nextOf, a_ownerOf, a_leaveOf, a_pcOf, a_snapshot, a_cellPrev, a_cellNext, a_sourceOf, a_alive, a_queued, a_free, a_nodeAt, a_indexOf, a_heap, a_frameEnter, upd a_framePc Xs.length (nI (X.1.2.2.2.1 + 1)), a_frameZone, a_frameWait, a_frameRegs) (nI Xs.length) (nI (X.1.2.1 * 16 + X.1.2.2.2.1)) := by
  obtain ⟨t1, t2, t3, t4, t5, t6, t7, t8, t9, t10, t11, t12⟩ := cp_top hM
  have hM0 := hM
  obtain ⟨hB, hI, hN, hf, hne, hSt, hXR, hdp, hdl, hil, hCW, hg0, hRe, hov⟩ := hM
  obtain ⟨i1, i2, i3, i4, i5, i6, i7, i8, i9⟩ := cp_ins hCW t3 t4 hpc
  obtain ⟨ra4, era⟩ := i7 (by rw [hop]; decide)
  obtain ⟨b, hb, eb⟩ := i9 (by rw [hop]; decide) (by rw [hop]; decide) (by rw [hop]; decide)
  have hXR0 := hXR
  obtain ⟨x1, x2, x3, x4, x5, x6, x7, x8, x9⟩ := hXR
  have n1 := hB.1.1
  have n2 := hB.1.2.1
  have n3 := hB.1.2.2.1
  have es : (nI (X.1.2.1 * 16 + X.1.2.2.2.1)).toNatClampNeg = X.1.2.1 * 16 + X.1.2.2.2.1 := nI_clamp (by omega)
  have ins_ : vp_in (nI (X.1.2.1 * 16 + X.1.2.2.2.1)) 96 := vp_in_nI i2 (by decide)
  have ed : (nI Xs.length).toNatClampNeg = Xs.length := nI_clamp (by omega)
  have ind : vp_in (nI Xs.length) 256 := vp_in_nI (by omega) (by decide)
  have eb' : a_bAt (X.1.2.1 * 16 + X.1.2.2.2.1) = nI b := eb
  have era' : a_aAt (X.1.2.1 * 16 + X.1.2.2.2.1) = nI (cp_ra (f_cells, a_bodySizes, a_opAt, a_aAt, a_bAt) X.1) := era
  have hvb : a_frameRegs (Xs.length * 4 + b) = cp_vb (f_cells, a_bodySizes, a_opAt, a_aAt, a_bAt) X.1 := by
    unfold cp_vb
    rw [eb, nI_clamp (by omega), ← x6, cp_rg_at hb]
  have hva : a_frameRegs (Xs.length * 4 + cp_ra (f_cells, a_bodySizes, a_opAt, a_aAt, a_bAt) X.1) = cp_va (f_cells, a_bodySizes, a_opAt, a_aAt, a_bAt) X.1 := by
    unfold cp_va
    rw [← x6, cp_rg_at ra4]
  obtain ⟨hc1, hc2⟩ := cp_ad_nI n2 n3 (cp_vb (f_cells, a_bodySizes, a_opAt, a_aAt, a_bAt) X.1)
  rw [← n1] at hc1 hc2
  refine nm_r (e' := nI (Xs.length * 4)) (pk_mul _ 4) (And.intro ins_ ?_)
  rw [es, eb', era', nI_add, nI_add, nI_clamp (n := Xs.length * 4 + b) (by omega), nI_clamp (n := Xs.length * 4 + cp_ra (f_cells, a_bodySizes, a_opAt, a_aAt, a_bAt) X.1) (by omega)]
  refine And.intro (vp_in_nI (by omega) (by decide)) ?_
  rw [hvb, hva]
  refine cp_address (by rw [n1]; exact nI_ne0 (by omega) (by omega)) ?_
  rw [hc1, ed, x1]
  refine And.intro ins_ (And.intro (vp_in_nI (by omega) (by decide)) (nm_e (And.intro ind ?_)))
  generalize hcc : cp_adr f_cells (cp_vb (f_cells, a_bodySizes, a_opAt, a_aAt, a_bAt) X.1) = c at hc2 ⊢
  generalize hvv : cp_va (f_cells, a_bodySizes, a_opAt, a_aAt, a_bAt) X.1 = v
  by_cases hfull : ins = lN
  · refine cp_append_full (by rw [hB.1.2.2.2.2.2.1, hB.1.2.2.2.2.2.2.2.1, hfull]; exact Int32.le_refl _) ?_
    refine br_f (by decide) ?_
    refine KO _ _ _ _ _ _ _ _ _ _ _ _ _ _ _ _ _ _ _ _ _ _ _ _ _ _ _ _ _ ?_ rfl
    exact cp_Ov_of (g := (0, 2, c, v, X.1.1, 0, fun _ => 0)) hRe ⟨X.1, rest, rfl, Or.inr (Or.inl ⟨hpc, hop, rfl, hcc.symm, hvv.symm, rfl, rfl⟩)⟩ (fun k => absurd k (show ¬ (2 : Int32) = 1 by decide)) (by omega)
  · have hlt : ins < lN := by omega
    have hfc : ∃ fc', fc = fc' + 1 := ⟨fc - 1, by have := hB.1.2.2.2.2.2.2.2.2.2.2.1; omega⟩
    obtain ⟨fc, rfl⟩ := hfc
    obtain ⟨n, hn, en, hqn, hno⟩ := hB.2.2.2.2.2.2.2.1.1 fc (by omega)
    have hzm : z ∈ p0 ++ [z] ++ post := List.mem_append.mpr (Or.inl (List.mem_append.mpr (Or.inr List.mem_cons_self)))
    have hz := (hB.2.1 z hzm).1.1
    refine cp_append hB.1.2.2.2.2.2.2.2.2.2.1 (by have := hB.1.2.2.2.2.2.2.2.2.2.2.2.1; omega) hB.1.2.2.2.2.2.2.2.1 hB.1.2.2.2.2.2.1 hlt t8 en hn hcur hz ?_
    refine br_t (nI_pos' (by omega)) ?_
    rw [cp_upd_same hqn]
    -- the new node
    generalize hg : ((n, 2, c, v, X.1.1, 0, fun _ => 0) : cp_N) = g
    have gid : cp_id g = n := by rw [← hg]
    have gk : cp_k g = 2 := by rw [← hg]
    have gs : cp_s g = c := by rw [← hg]
    have gv : cp_v g = v := by rw [← hg]
    have go : cp_o g = X.1.1 := by rw [← hg]
    clear hg
    subst gid gs gv
    have hgn : ∀ x ∈ p0 ++ [z] ++ post, cp_id x ≠ cp_id g := fun x hx => (hno x hx).1
    have hL := cp_Lb_ins hB hlt hgn
    have hU := cp_Lb_U hL
    have hR0 : ∀ x ∈ p0 ++ [z] ++ post, cp_R0 (upd a_kindOf (cp_id g) 2) (upd a_subjectOf (cp_id g) (nI (cp_s g))) (upd a_valueOf (cp_id g) (cp_v g)) x := by
      intro x hx
      obtain ⟨⟨y1, y2, y3, y4, y5⟩, _⟩ := hB.2.1 x hx
      have e := hgn x hx
      exact ⟨y1, by rw [pk_un e]; exact y2, by rw [pk_un e]; exact y3, by rw [pk_un e]; exact y4, y5⟩
    have hlen : (p0 ++ [z] ++ post).length ≤ 255 := by have := hB.1.2.2.2.2.2.2.2.2.2.2.2.2; omega
    refine cp_linkA (p := p0 ++ [z]) (q := post) (g := g) (Or.inr gk) (by omega) hn pk_us hlen hR0 hL hI ?_
    intro hd' tl' pv' nx' src' kD kO kS1 kS2 kS3
    have egid : (nI (cp_id g)).toNatClampNeg = cp_id g := nI_clamp (by omega)
    have ing : vp_in (nI (cp_id g)) 256 := vp_in_nI hn (by decide)
    have efl : cp_fl (cp_s g) (p0 ++ [z] ++ g :: post) = cp_fl (cp_s g) (p0 ++ [z]) ++ g :: cp_fl (cp_s g) post := by rw [cp_fl_app, cp_fl_y (cp_A_iff.mpr ⟨Or.inr gk, rfl⟩)]
    have hG := (kD (cp_s g) (by omega)).2.2
    rw [efl] at hG
    obtain ⟨_, hG1, hG2, hG3⟩ := (cp_G_app _ _ _ _).mp hG
    refine And.intro ing ?_
    rw [egid, hG2]
    have hRq := cp_fl_R (c := cp_s g) (L := post) (fun x hx => hR0 x (List.mem_append.mpr (Or.inr hx)))
    have hUf := cp_U_fl (c := cp_s g) hU
    rw [efl] at hUf
    obtain ⟨u1, u2, u3⟩ := cp_U_app.mp hUf
    obtain ⟨u4, u5⟩ := cp_U_cons.mp u2
    have hSQ := (hI _ (show cp_s g < 16 by omega)).2.2
    rw [cp_fl_app] at hSQ
    obtain ⟨hSQ1, hSQ2⟩ := (cp_SQ_app _ _ _).mp hSQ
    have hlq : (cp_fl (cp_s g) post).length ≤ 255 := by
      have := cp_fl_len (c := cp_s g) (L := post)
      have h2 : (p0 ++ [z] ++ post).length = (p0 ++ [z]).length + post.length := List.length_append
      omega
    refine cp_adopt (c := cp_s g) (Or.inr ⟨cp_id g, hn, rfl⟩) (by omega) hlq hRq u5 hG3 kS2 hSQ2 (cp_H_lab (fun m _ h => pk_un (fun e => by rw [e] at h; exact h hqn)) hB.2.2.2.2.1) ?_
    intro src2 sz2 hp2 qd2 m1 m2 m3 m4 m5 m6
    have egv : cp_gv (upd a_valueOf (cp_id g) (cp_v g)) (nI (cp_id g)) (a_baseValue (cp_s g)) = cp_v g := by
      unfold cp_gv
      rw [if_pos (nI_pos' (by omega)), egid, pk_us]
    rw [egv] at m2
    have hXm := cp_E_mem _ _ _ hE
    have hlvX : ∀ Y ∈ X :: Xs, upd a_leaveOf (cp_id g) (-1) Y.1.1 = a_leaveOf Y.1.1 := fun Y hY => pk_un (fun e => (hSt Y.1 (hXm Y hY)).2.2.2.2.1 fc (by omega) (by rw [en, e]))
    have hXR' := cp_XR_top (X := X) (Xs := Xs) (fp' := upd a_framePc Xs.length (nI (X.1.2.2.2.1 + 1))) (frg' := a_frameRegs) (lv' := upd a_leaveOf (cp_id g) (-1)) (p := X.1.2.2.2.1 + 1)
      hXR0 pk_us (by omega) x6 (fun i hi => ⟨pk_un (by omega), rfl⟩) hlvX
    have hn1 : ¬ cp_k g = 1 := by rw [gk]; decide
    have hCI : cp_CI hd' tl' pv' nx' src2 qd2 a_baseValue (p0 ++ [z] ++ g :: post) := by
      intro c' hc'
      by_cases e : c' = cp_s g
      · subst e
        refine ⟨kD _ hc', ?_, ?_⟩
        · rw [efl]
          have := (cp_So_app _ _ _).mp kS1
          refine (cp_So_app _ _ _).mpr ⟨?_, ?_, ?_⟩
          · exact cp_So_fr _ _ (fun x hx => m6 _ (fun y hy e => u3 x hx y (List.mem_cons_of_mem _ hy) e.symm)) this.1
          · rw [m6 _ (fun y hy e => u4 y hy e.symm)]; exact this.2.1
          · rw [if_pos gk]; exact m1
        · rw [efl]
          refine (cp_SQ_app _ _ _).mpr ⟨cp_SQ_mono _ _ (fun x _ h => m4 _ h) hSQ1, fun h => absurd h hn1, ?_⟩
          rw [if_pos gk]; exact m2
      · obtain ⟨s1, q1⟩ := kO c' hc' e
        refine ⟨kD _ hc', cp_So_fr _ _ (fun y hy => m6 _ (fun x hx => ?_)) s1, cp_SQ_mono _ _ (fun x _ h => m4 _ h) q1⟩
        exact cp_fl_off (c := cp_s g) (c' := c') hU (by rw [efl]; exact List.mem_append.mpr (Or.inr (List.mem_cons_of_mem _ hx))) hy e
    have hOC : cp_OC (f_cells, a_bodySizes, a_opAt, a_aAt, a_bAt) (X.1 :: rest) g (cp_nx X.1 :: rest) :=
      ⟨X.1, rest, rfl, Or.inr (Or.inl ⟨hpc, hop, gk, hcc.symm, hvv.symm, go, rfl⟩)⟩
    have hMn := cp_M_app (g := g) (st' := cp_nx X.1 :: rest) (Xs' := (cp_nx X.1, X.2) :: Xs)
      (vl' := upd a_valueOf (cp_id g) (cp_v g)) (ow' := upd a_ownerOf (cp_id g) (nI X.1.1)) (lv' := upd a_leaveOf (cp_id g) (-1)) (pc' := a_pcOf) (sn' := a_snapshot) (cur' := nI (cp_id g)) (sz' := sz2) (hp' := hp2) (qd' := qd2)
      hM0 hlt hn en (fun m h => pk_un h) pk_us (fun m h => pk_un h) (by rw [pk_us, go]) (fun x hx _ => pk_un (hno x hx).2) (fun k => by rw [gk] at k; exact absurd k (by decide)) (fun m h => rfl) (fun m h => rfl)
      (fun k => absurd k hn1) (Or.inr (Or.inr (Or.inl gk))) (fun _ => hc2) (fun k => by rw [gk] at k; exact absurd k (by decide)) (by rw [go]; exact t2) (fun i hi => by rw [go]; exact t10 i (by omega))
      m3 (fun n h => (m5 n h).imp id (fun ⟨y, hy, e⟩ => ⟨y, (cp_fl_mem hy).1, e⟩)) hCI
      (fun A hA => Or.inl (by
        rcases List.mem_cons.mp hA with rfl | hA
        · exact ⟨X.1, List.mem_cons_self, rfl, rfl, rfl⟩
        · exact ⟨A, List.mem_cons_of_mem _ hA, rfl, rfl, rfl⟩))
      hXR' (by have : (X :: Xs).length = Xs.length + 1 := rfl; have : ((cp_nx X.1, X.2) :: Xs).length = Xs.length + 1 := rfl; omega)
      (cp_Re_ms hRe (Or.inr ⟨g, hOC, fun k => absurd k hn1, rfl⟩))
    refine K _ _ _ _ _ _ _ _ _ _ _ _ _ _ _ _ _ _ _ _ _ _ _ _ _ _ _ _ _ ⟨ins + 1, fc, p0 ++ [z] ++ [g], post, cp_nx X.1 :: rest, (cp_nx X.1, X.2) :: Xs, ?_, Or.inl ⟨?_, ?_, ⟨(cp_nx X.1, X.2), Xs, rfl, hxw⟩, ?_⟩⟩
    · have := cp_mx_step (X := X) (X' := (cp_nx X.1, X.2)) (Xs := Xs) (p := 0) i1 rfl rfl
      unfold cp_mu
      omega
    · rw [gk] at hMn
      rw [hdp]
      exact hMn
    · exact (cp_lt_snoc _ _ _).symm
    · exact cp_E_top hE rfl rfl rfl rfl rfl
end
end
section
/-! ===== compute ===== -/
section
variable {f_cells f_functions f_limit f_status f_freeCount f_first f_size f_heapSize f_depth f_cur f_inserted f_overflowed : Int32} {a_bodySizes a_opAt a_aAt a_bAt a_baseValue a_settledValue a_outputValue a_changedMark a_cellHead a_cellTail a_kindOf a_subjectOf a_valueOf a_labelOf a_nextOf a_ownerOf a_leaveOf a_pcOf a_snapshot a_cellPrev a_cellNext a_sourceOf a_alive a_queued a_free a_nodeAt a_indexOf a_heap a_frameEnter a_framePc a_frameZone a_frameWait a_frameRegs : Nat → Int32}
/-- the end of a silent step -/
theorem cp_fin {pst : SX → Prop} {cN fN lN ins fc : Nat} {g0 : cp_N} {p0 post : List cp_N} {z : cp_N} {rest : List cp_F} {X : cp_X} {Xs : List cp_X} {fp' frg' : Nat → Int32} {p q : Nat} {r : Nat → Int32} (hM : cp_M cN fN lN ins fc g0 (p0 ++ [z]) post (X.1 :: rest) (X :: Xs) f_cells f_functions f_limit f_status f_freeCount f_first f_size f_heapSize f_depth f_cur f_inserted f_overflowed a_bodySizes a_opAt a_aAt a_bAt a_baseValue a_settledValue a_outputValue a_changedMark a_cellHead a_cellTail a_kindOf a_subjectOf a_valueOf a_labelOf a_nextOf a_ownerOf a_leaveOf a_pcOf a_snapshot a_cellPrev a_cellNext a_sourceOf a_alive a_queued a_free a_nodeAt a_indexOf a_heap a_frameEnter a_framePc a_frameZone a_frameWait a_frameRegs) (hcur : f_cur = nI (cp_id z)) (hxw : cp_xw X = -1)
    (hE : cp_E (f_cells, a_bodySizes, a_opAt, a_aAt, a_bAt) (X :: Xs) (X.1 :: rest) post) (hpc : X.1.2.2.2.1 < cp_bz (f_cells, a_bodySizes, a_opAt, a_aAt, a_bAt) X.1.2.1) (h16 : X.1.2.2.2.1 < 16)
    (K : ∀ (q_freeCount q_first q_heapSize q_depth q_cur q_inserted q_overflowed : Int32) (r_cellHead r_cellTail r_kindOf r_subjectOf r_valueOf r_labelOf r_nextOf r_ownerOf r_leaveOf r_pcOf r_snapshot r_cellPrev r_cellNext r_sourceOf r_alive r_queued r_heap r_frameEnter r_framePc r_frameZone r_frameWait r_frameRegs : Nat → Int32), cp_Sx cN fN lN g0 (cp_mu lN ins post (X :: Xs) - 1) f_cells f_functions f_limit f_status q_freeCount q_first f_size q_heapSize q_depth q_cur q_inserted q_overflowed a_bodySizes a_opAt a_aAt a_bAt a_baseValue a_settledValue a_outputValue a_changedMark r_cellHead r_cellTail r_kindOf r_subjectOf r_valueOf r_labelOf r_nextOf r_ownerOf r_leaveOf r_pcOf r_snapshot r_cellPrev r_cellNext r_sourceOf r_alive r_queued a_free a_nodeAt a_indexOf r_heap r_frameEnter r_framePc r_frameZone r_frameWait r_frameRegs → pst (f_cells, f_functions, f_limit, f_status, q_freeCount, q_first, f_size, q_heapSize, q_depth, q_cur, q_inserted, q_overflowed, a_bodySizes, a_opAt, a_aAt, a_bAt, a_baseValue, a_settledValue, a_outputValue, a_changedMark, r_cellHead, r_cellTail, r_kindOf, r_subjectOf, r_valueOf, r_labelOf, r_nextOf, r_ownerOf, r_leaveOf, r_pcOf, r_snapshot, r_cellPrev, r_cellNext, r_sourceOf, r_alive, r_queued, a_free, a_nodeAt, a_indexOf, r_heap, r_frameEnter, r_framePc, r_frameZone, r_frameWait, r_frameRegs))
    (hs : cp_sil (f_cells, a_bodySizes, a_opAt, a_aAt, a_bAt) X.1 (cp_ps X.1 p r)) (hp : fp' Xs.length = nI p) (hpq : p = X.1.2.2.2.1 + 1 + q) (hp63 : p ≤ 63) (hr : cp_rg frg' Xs.length = r) (ho : ∀ i, i < Xs.length → fp' i = a_framePc i ∧ cp_rg frg' i = cp_rg a_frameRegs i) :
    pst (f_cells, f_functions, f_limit, f_status, f_freeCount, f_first, f_size, f_heapSize, f_depth, f_cur, f_inserted, f_overflowed, a_bodySizes, a_opAt, a_aAt, a_bAt, a_baseValue, a_settledValue, a_outputValue, a_changedMark, a_cellHead, a_cellTail, a_kindOf, a_subjectOf, a_valueOf, a_labelOf, a_nextOf, a_ownerOf, a_leaveOf, a_pcOf, a_snapshot, a_cellPrev, a_cellNext, a_sourceOf, a_alive, a_queued, a_free, a_nodeAt, a_indexOf, a_heap, a_frameEnter, fp', a_frameZone, a_frameWait, frg') := by
  obtain ⟨hB, hI, hN, hf, hne, hSt, hXR, hdp, hdl, hil, hCW, hg0, hRe, hov⟩ := hM
  have hXR' := cp_XR_top (X := X) (Xs := Xs) (lv' := a_leaveOf) hXR hp hp63 hr ho (fun _ _ => rfl)
  refine K _ _ _ _ _ _ _ _ _ _ _ _ _ _ _ _ _ _ _ _ _ _ _ _ _ _ _ _ _ ⟨ins, fc, p0 ++ [z], post, cp_ps X.1 p r :: rest, (cp_ps X.1 p r, X.2) :: Xs, ?_, Or.inl ⟨⟨hB, hI, hN, hf, hne, ?_, hXR', hdp, hdl, hil, hCW, hg0, ?_, hov⟩, ?_, ⟨(cp_ps X.1 p r, X.2), Xs, rfl, hxw⟩, ?_⟩⟩
  · have := cp_mx_step (X := X) (X' := (cp_ps X.1 p r, X.2)) (Xs := Xs) (p := q) h16 hpq rfl
    unfold cp_mu
    omega
  · intro A hA
    rcases List.mem_cons.mp hA with rfl | hA
    · exact hSt X.1 List.mem_cons_self
    · exact hSt A (List.mem_cons_of_mem _ hA)
  · exact cp_Re_ms hRe (Or.inl ⟨⟨X.1, _, rest, rfl, hpc, hs, rfl⟩, rfl⟩)
  · rw [cp_lt_snoc]; exact hcur
  · exact cp_E_top hE rfl rfl rfl rfl rfl
theorem cp_compute {pst : SX → Prop} {cN fN lN ins fc : Nat} {g0 : cp_N} {p0 post : List cp_N} {z : cp_N} {rest : List cp_F} {X : cp_X} {Xs : List cp_X} (hM : cp_M cN fN lN ins fc g0 (p0 ++ [z]) post (X.1 :: rest) (X :: Xs) f_cells f_functions f_limit f_status f_freeCount f_first f_size f_heapSize f_depth f_cur f_inserted f_overflowed a_bodySizes a_opAt a_aAt a_bAt a_baseValue a_settledValue a_outputValue a_changedMark a_cellHead a_cellTail a_kindOf a_subjectOf a_valueOf a_labelOf a_nextOf a_ownerOf a_leaveOf a_pcOf a_snapshot a_cellPrev a_cellNext a_sourceOf a_alive a_queued a_free a_nodeAt a_indexOf a_heap a_frameEnter a_framePc a_frameZone a_frameWait a_frameRegs) (hcur : f_cur = nI (cp_id z)) (hxw : cp_xw X = -1)
    (hE : cp_E (f_cells, a_bodySizes, a_opAt, a_aAt, a_bAt) (X :: Xs) (X.1 :: rest) post) (hpc : X.1.2.2.2.1 < cp_bz (f_cells, a_bodySizes, a_opAt, a_aAt, a_bAt) X.1.2.1) (h8 : ¬ cp_op (f_cells, a_bodySizes, a_opAt, a_aAt, a_bAt) X.1 = 8) (h9 : ¬ cp_op (f_cells, a_bodySizes, a_opAt, a_aAt, a_bAt) X.1 = 9) (h10 : ¬ cp_op (f_cells, a_bodySizes, a_opAt, a_aAt, a_bAt) X.1 = 10)
    (K : ∀ (q_freeCount q_first q_heapSize q_depth q_cur q_inserted q_overflowed : Int32) (r_cellHead r_cellTail r_kindOf r_subjectOf r_valueOf r_labelOf r_nextOf r_ownerOf r_leaveOf r_pcOf r_snapshot r_cellPrev r_cellNext r_sourceOf r_alive r_queued r_heap r_frameEnter r_framePc r_frameZone r_frameWait r_frameRegs : Nat → Int32), cp_Sx cN fN lN g0 (cp_mu lN ins post (X :: Xs) - 1) f_cells f_functions f_limit f_status q_freeCount q_first f_size q_heapSize q_depth q_cur q_inserted q_overflowed a_bodySizes a_opAt a_aAt a_bAt a_baseValue a_settledValue a_outputValue a_changedMark r_cellHead r_cellTail r_kindOf r_subjectOf r_valueOf r_labelOf r_nextOf r_ownerOf r_leaveOf r_pcOf r_snapshot r_cellPrev r_cellNext r_sourceOf r_alive r_queued a_free a_nodeAt a_indexOf r_heap r_frameEnter r_framePc r_frameZone r_frameWait r_frameRegs → pst (f_cells, f_functions, f_limit, f_status, q_freeCount, q_first, f_size, q_heapSize, q_depth, q_cur, q_inserted, q_overflowed, a_bodySizes, a_opAt, a_aAt, a_bAt, a_baseValue, a_settledValue, a_outputValue, a_changedMark, r_cellHead, r_cellTail, r_kindOf, r_subjectOf, r_valueOf, r_labelOf, r_nextOf, r_ownerOf, r_leaveOf, r_pcOf, r_snapshot, r_cellPrev, r_cellNext, r_sourceOf, r_alive, r_queued, a_free, a_nodeAt, a_indexOf, r_heap, r_frameEnter, r_framePc, r_frameZone, r_frameWait, r_frameRegs)) :
    wpX_compute pst (f_cells, f_functions, f_limit, f_status, f_freeCount, f_first, f_size, f_heapSize, f_depth, f_cur, f_inserted, f_overflowed, a_bodySizes, a_opAt, a_aAt, a_bAt, a_baseValue, a_settledValue, a_outputValue, a_changedMark, a_cellHead, a_cellTail, a_kindOf, a_subjectOf, a_valueOf, a_labelOf, a_nextOf, a_ownerOf, a_leaveOf, a_pcOf, a_snapshot, a_cellPrev, a_cellNext, a_sourceOf, a_alive, a_queued, a_free, a_nodeAt, a_indexOf, a_heap, a_frameEnter, upd a_framePc Xs.length (nI (X.1.2.2.2.1 + 1)), a_frameZone, a_frameWait, a_frameRegs) (nI Xs.length) (nI (X.1.2.1 * 16 + X.1.2.2.2.1)) := by
  obtain ⟨t1, t2, t3, t4, t5, t6, t7, t8, t9, t10, t11, t12⟩ := cp_top hM
  have hM0 := hM
  obtain ⟨hB, hI, hN, hf, hne, hSt, hXR, hdp, hdl, hil, hCW, hg0, hRe, hov⟩ := hM
  obtain ⟨i1, i2, i3, i4, i5, i6, i7, i8, i9⟩ := cp_ins hCW t3 t4 hpc
  obtain ⟨ra4, era⟩ := i7 h10
  obtain ⟨x1, x2, x3, x4, x5, x6, x7, x8, x9⟩ := hXR
  have es : (nI (X.1.2.1 * 16 + X.1.2.2.2.1)).toNatClampNeg = X.1.2.1 * 16 + X.1.2.2.2.1 := nI_clamp (by omega)
  have ins_ : vp_in (nI (X.1.2.1 * 16 + X.1.2.2.2.1)) 96 := vp_in_nI i2 (by decide)
  have ed : (nI Xs.length).toNatClampNeg = Xs.length := nI_clamp (by omega)
  have ind : vp_in (nI Xs.length) 256 := vp_in_nI (by omega) (by decide)
  have era' : a_aAt (X.1.2.1 * 16 + X.1.2.2.2.1) = nI (cp_ra (f_cells, a_bodySizes, a_opAt, a_aAt, a_bAt) X.1) := era
  have hva : a_frameRegs (Xs.length * 4 + cp_ra (f_cells, a_bodySizes, a_opAt, a_aAt, a_bAt) X.1) = cp_va (f_cells, a_bodySizes, a_opAt, a_aAt, a_bAt) X.1 := by
    unfold cp_va
    rw [← x6, cp_rg_at ra4]
  have e5 : nI Xs.length * 4 + a_aAt (X.1.2.1 * 16 + X.1.2.2.2.1) = nI (Xs.length * 4 + cp_ra (f_cells, a_bodySizes, a_opAt, a_aAt, a_bAt) X.1) := by
    rw [era', ← nI_add, ← pk_mul]; rfl
  have c5 : (nI (Xs.length * 4 + cp_ra (f_cells, a_bodySizes, a_opAt, a_aAt, a_bAt) X.1)).toNatClampNeg = Xs.length * 4 + cp_ra (f_cells, a_bodySizes, a_opAt, a_aAt, a_bAt) X.1 := nI_clamp (by omega)
  have in5 : vp_in (nI (Xs.length * 4 + cp_ra (f_cells, a_bodySizes, a_opAt, a_aAt, a_bAt) X.1)) 1024 := vp_in_nI (by omega) (by decide)
  have fpo : ∀ i, i < Xs.length → upd a_framePc Xs.length (nI (X.1.2.2.2.1 + 1)) i = a_framePc i := fun i hi => pk_un (by omega)
  have F : ∀ v, cp_sil (f_cells, a_bodySizes, a_opAt, a_aAt, a_bAt) X.1 (cp_ps X.1 (X.1.2.2.2.1 + 1) (upd X.1.2.2.2.2 (cp_ra (f_cells, a_bodySizes, a_opAt, a_aAt, a_bAt) X.1) v)) → pst (f_cells, f_functions, f_limit, f_status, f_freeCount, f_first, f_size, f_heapSize, f_depth, f_cur, f_inserted, f_overflowed, a_bodySizes, a_opAt, a_aAt, a_bAt, a_baseValue, a_settledValue, a_outputValue, a_changedMark, a_cellHead, a_cellTail, a_kindOf, a_subjectOf, a_valueOf, a_labelOf, a_nextOf, a_ownerOf, a_leaveOf, a_pcOf, a_snapshot, a_cellPrev, a_cellNext, a_sourceOf, a_alive, a_queued, a_free, a_nodeAt, a_indexOf, a_heap, a_frameEnter, upd a_framePc Xs.length (nI (X.1.2.2.2.1 + 1)), a_frameZone, a_frameWait, upd a_frameRegs (Xs.length * 4 + cp_ra (f_cells, a_bodySizes, a_opAt, a_aAt, a_bAt) X.1) v) := fun v hs =>
    cp_fin (p := X.1.2.2.2.1 + 1) (q := 0) hM0 hcur hxw hE hpc i1 K hs pk_us rfl (by omega) (by rw [cp_rg_upd ra4, x6]) (fun i hi => ⟨fpo i hi, cp_rg_ne ra4 (by omega)⟩)
  obtain ⟨o, ho, eo⟩ := i5
  have eo' : a_opAt (X.1.2.1 * 16 + X.1.2.2.2.1) = nI o := eo
  refine And.intro ins_ ?_
  rw [es]
  refine nm_r eo' (And.intro ins_ (nm_r (e' := cp_rb (f_cells, a_bodySizes, a_opAt, a_aAt, a_bAt) X.1) rfl (And.intro ins_ (nm_r e5 ?_))))
  rw [c5]
  refine And.intro in5 (nm_r hva ?_)
  have nb : ¬ nI o = 0 → ¬ nI o = 6 → ¬ nI o = 7 → ∃ b, b < 4 ∧ cp_rb (f_cells, a_bodySizes, a_opAt, a_aAt, a_bAt) X.1 = nI b ∧ nI Xs.length * 4 + cp_rb (f_cells, a_bodySizes, a_opAt, a_aAt, a_bAt) X.1 = nI (Xs.length * 4 + b) ∧ a_frameRegs (Xs.length * 4 + b) = cp_vb (f_cells, a_bodySizes, a_opAt, a_aAt, a_bAt) X.1 := by
    intro a1 a2 a3
    obtain ⟨b, hb, eb⟩ := i9 (by rw [eo]; exact a1) (by rw [eo]; exact a2) (by rw [eo]; exact a3)
    refine ⟨b, hb, eb, ?_, ?_⟩
    · rw [eb, ← nI_add, ← pk_mul]; rfl
    · unfold cp_vb
      rw [eb, nI_clamp (by omega), ← x6, cp_rg_at hb]
  have ho' : o = 0 ∨ o = 1 ∨ o = 2 ∨ o = 3 ∨ o = 4 ∨ o = 5 ∨ o = 6 ∨ o = 7 ∨ o = 8 ∨ o = 9 ∨ o = 10 := by omega
  rcases ho' with rfl | rfl | rfl | rfl | rfl | rfl | rfl | rfl | rfl | rfl | rfl
  · refine br_t rfl ?_
    unfold wX_compute_69
    rw [c5]
    refine br_f (by decide) (br_f (by decide) (br_t rfl (And.intro in5 (nm_e ?_))))
    exact F _ (Or.inl ⟨eo, rfl⟩)
  · obtain ⟨b, hb, eb, e6, hvb⟩ := nb (by decide) (by decide) (by decide)
    refine br_f (by decide) (br_f (by decide) (br_f (by decide) ?_))
    rw [e6, nI_clamp (n := Xs.length * 4 + b) (by omega)]
    refine And.intro (vp_in_nI (by omega) (by decide)) (nm_r hvb ?_)
    unfold wX_compute_69
    rw [c5]
    refine br_f (by decide) (br_f (by decide) (br_f (by decide) (br_t rfl (And.intro in5 (nm_e ?_)))))
    exact F _ (Or.inr (Or.inl ⟨eo, rfl⟩))
  · obtain ⟨b, hb, eb, e6, hvb⟩ := nb (by decide) (by decide) (by decide)
    refine br_f (by decide) (br_f (by decide) (br_f (by decide) ?_))
    rw [e6, nI_clamp (n := Xs.length * 4 + b) (by omega)]
    refine And.intro (vp_in_nI (by omega) (by decide)) (nm_r hvb ?_)
    unfold wX_compute_69
    rw [c5]
    refine br_f (by decide) (br_f (by decide) (br_f (by decide) (br_f (by decide) (br_t rfl ?_))))
    unfold wX_compute_128
    rw [c5]
    refine And.intro in5 (nm_e ?_)
    exact F _ (Or.inr (Or.inr (Or.inl ⟨eo, rfl⟩)))
  · obtain ⟨b, hb, eb, e6, hvb⟩ := nb (by decide) (by decide) (by decide)
    refine br_f (by decide) (br_f (by decide) (br_f (by decide) ?_))
    rw [e6, nI_clamp (n := Xs.length * 4 + b) (by omega)]
    refine And.intro (vp_in_nI (by omega) (by decide)) (nm_r hvb ?_)
    unfold wX_compute_69
    rw [c5]
    refine br_f (by decide) (br_f (by decide) (br_f (by decide) (br_f (by decide) (br_f (by decide) (br_t rfl (And.intro in5 (nm_e ?_)))))))
    exact F _ (Or.inr (Or.inr (Or.inr (Or.inl ⟨eo, rfl⟩))))
  · obtain ⟨b, hb, eb, e6, hvb⟩ := nb (by decide) (by decide) (by decide)
    refine br_f (by decide) (br_f (by decide) (br_f (by decide) ?_))
    rw [e6, nI_clamp (n := Xs.length * 4 + b) (by omega)]
    refine And.intro (vp_in_nI (by omega) (by decide)) (nm_r hvb ?_)
    unfold wX_compute_69
    rw [c5]
    refine br_f (by decide) (br_f (by decide) (br_f (by decide) (br_f (by decide) (br_f (by decide) (br_f (by decide) (br_t rfl (And.intro in5 (nm_e ?_))))))))
    exact F _ (Or.inr (Or.inr (Or.inr (Or.inr (Or.inl ⟨eo, rfl⟩)))))
  · obtain ⟨b, hb, eb, e6, hvb⟩ := nb (by decide) (by decide) (by decide)
    refine br_f (by decide) (br_f (by decide) (br_f (by decide) ?_))
    rw [e6, nI_clamp (n := Xs.length * 4 + b) (by omega)]
    refine And.intro (vp_in_nI (by omega) (by decide)) (nm_r hvb ?_)
    unfold wX_compute_69
    rw [c5]
    refine br_f (by decide) (br_f (by decide) (br_f (by decide) (br_f (by decide) (br_f (by decide) (br_f (by decide) (br_f (by decide) (br_t rfl (br_c (fun hle => And.intro in5 (nm_e ?_)) (fun hle => And.intro in5 (nm_e ?_))))))))))
    · exact F _ (Or.inr (Or.inr (Or.inr (Or.inr (Or.inr (Or.inl ⟨eo, hle, rfl⟩))))))
    · exact F _ (Or.inr (Or.inr (Or.inr (Or.inr (Or.inr (Or.inr (Or.inl ⟨eo, hle, rfl⟩)))))))
  · refine br_f (by decide) (br_t rfl ?_)
    unfold wX_compute_69
    rw [c5]
    refine br_f (by decide) (br_f (by decide) (br_f (by decide) (br_f (by decide) (br_f (by decide) (br_f (by decide) (br_f (by decide) (br_f (by decide) (br_t rfl ?_))))))))
    unfold wX_compute_128
    rw [c5]
    refine And.intro in5 (nm_e ?_)
    exact F _ (Or.inr (Or.inr (Or.inr (Or.inr (Or.inr (Or.inr (Or.inr (Or.inl ⟨eo, rfl⟩))))))))
  · refine br_f (by decide) (br_f (by decide) (br_t rfl ?_))
    unfold wX_compute_69
    rw [c5]
    rw [ed]
    refine br_f (by decide) (br_f (by decide) (br_f (by decide) (br_f (by decide) (br_f (by decide) (br_f (by decide) (br_f (by decide) (br_f (by decide) (br_f (by decide) (br_t rfl (br_c (fun hz => And.intro ind (And.intro ind (nm_e ?_))) (fun hz => ?_)))))))))))
    · obtain ⟨b, hb, eb⟩ := i8 eo
      refine cp_fin (p := X.1.2.2.2.1 + 1 + b) (q := b) hM0 hcur hxw hE hpc i1 K (r := X.1.2.2.2.2) (Or.inr (Or.inr (Or.inr (Or.inr (Or.inr (Or.inr (Or.inr (Or.inr (Or.inl ⟨eo, hz, by rw [eb, nI_clamp (by omega)]⟩))))))))) ?_ rfl (by omega) x6 (fun i hi => ⟨by rw [pk_un (by omega)]; exact fpo i hi, rfl⟩)
      rw [pk_us, pk_us, eb, nI_add]
    · exact cp_fin (p := X.1.2.2.2.1 + 1) (q := 0) hM0 hcur hxw hE hpc i1 K (r := X.1.2.2.2.2) (Or.inr (Or.inr (Or.inr (Or.inr (Or.inr (Or.inr (Or.inr (Or.inr (Or.inr (⟨eo, hz, rfl⟩)))))))))) pk_us rfl (by omega) x6 (fun i hi => ⟨fpo i hi, rfl⟩)
  · exact absurd eo h8
  · exact absurd eo h9
  · exact absurd eo h10
end
end
section
/-! ===== doCall ===== -/
section
variable {f_cells f_functions f_limit f_status f_freeCount f_first f_size f_heapSize f_depth f_cur f_inserted f_overflowed : Int32} {a_bodySizes a_opAt a_aAt a_bAt a_baseValue a_settledValue a_outputValue a_changedMark a_cellHead a_cellTail a_kindOf a_subjectOf a_valueOf a_labelOf a_nextOf a_ownerOf a_leaveOf a_pcOf a_snapshot a_cellPrev a_cellNext a_sourceOf a_alive a_queued a_free a_nodeAt a_indexOf a_heap a_frameEnter a_framePc a_frameZone a_frameWait a_frameRegs : Nat → Int32}
theorem cp_findOld {pst : Int32 → Prop} {cN fN lN ins fc fn : Nat} {arg zone : Int32} {p0 post : List cp_N} {z : cp_N} (hB : cp_B cN fN lN ins fc (p0 ++ [z]) post f_cells f_functions f_limit f_inserted f_freeCount f_heapSize a_kindOf a_subjectOf a_valueOf a_labelOf a_ownerOf a_leaveOf a_pcOf a_snapshot a_alive a_queued a_free a_heap) (hN : cp_Nx a_nextOf (p0 ++ [z] ++ post) (-1)) (hcur : f_cur = nI (cp_id z)) (hfn : fn < 6)
    (hO : zone = -1 ∨ ∃ O zn rest, post = O ++ zn :: rest ∧ zone = nI (cp_id zn)) (K1 : pst (-1)) (K2 : ∀ O1 g O2, (∃ zn rest, post = O1 ++ g :: O2 ++ zn :: rest ∧ zone = nI (cp_id zn)) → cp_k g = 0 → cp_s g = fn → cp_v g = arg → pst (nI (cp_id g))) :
    wpX_findOld pst (f_cells, f_functions, f_limit, f_status, f_freeCount, f_first, f_size, f_heapSize, f_depth, f_cur, f_inserted, f_overflowed, a_bodySizes, a_opAt, a_aAt, a_bAt, a_baseValue, a_settledValue, a_outputValue, a_changedMark, a_cellHead, a_cellTail, a_kindOf, a_subjectOf, a_valueOf, a_labelOf, a_nextOf, a_ownerOf, a_leaveOf, a_pcOf, a_snapshot, a_cellPrev, a_cellNext, a_sourceOf, a_alive, a_queued, a_free, a_nodeAt, a_indexOf, a_heap, a_frameEnter, a_framePc, a_frameZone, a_frameWait, a_frameRegs) (nI fn) arg zone := by
  rcases hO with rfl | ⟨O, zn, rest, rfl, rfl⟩
  · exact br_t (by decide) K1
  · have hzm : z ∈ p0 ++ [z] ++ (O ++ zn :: rest) := List.mem_append.mpr (Or.inl (List.mem_append.mpr (Or.inr List.mem_cons_self)))
    have hz := (hB.2.1 z hzm).1.1
    have hznm : zn ∈ p0 ++ [z] ++ (O ++ zn :: rest) := List.mem_append.mpr (Or.inr (List.mem_append.mpr (Or.inr List.mem_cons_self)))
    have hzn := (hB.2.1 zn hznm).1.1
    have hlen : O.length ≤ 255 := by
      have h1 := hB.1.2.2.2.2.2.2.2.2.2.2.2.2; have h2 := hB.1.2.2.2.2.2.2.1; have h3 := hB.1.2.2.2.2.2.2.2.2.1
      have h4 : (p0 ++ [z] ++ (O ++ zn :: rest)).length = p0.length + 1 + (O.length + (rest.length + 1)) := by simp; omega
      omega
    have hU := cp_U_app.mp (cp_U_app.mp (cp_Lb_U hB.2.2.1)).2.1
    obtain ⟨n1, n2⟩ := (cp_Nx_app _ _ _).mp hN
    obtain ⟨n3, _⟩ := (cp_Nx_app _ _ _).mp n2
    have n4 : a_nextOf (cp_id z) = cp_hx (O ++ zn :: rest) (-1) := ((cp_Nx_app _ _ _).mp n1).2.1
    rw [cp_hx_app] at n4
    refine br_f (nI_pos (by omega)) (br_t (by rw [hcur]; exact nI_pos' (by omega)) (And.intro (by rw [hcur]; exact vp_in_nI hz (by decide)) ?_))
    rw [show f_cur.toNatClampNeg = cp_id z by rw [hcur]; exact nI_clamp (by omega)]
    refine nm_r n4 ⟨O.length + 1, ?_⟩
    refine cp_find_loop (rest := rest) (by omega) hzn K1 O (O.length + 1) 0 (by omega) (by omega) (fun x hx => ?_) n3 (fun O1 g O2 e h0 h1 h2 => K2 O1 g O2 ⟨zn, rest, by rw [e], rfl⟩ h0 h1 h2)
    have hR := hB.2.1 x (List.mem_append.mpr (Or.inr (List.mem_append.mpr (Or.inl hx))))
    refine ⟨hR.1, hU.2.2 x hx zn List.mem_cons_self, fun k => ?_⟩
    have h5 := hB.1.2.2.2.2.1
    have := (hR.2.2.2.2.2.1 k).1
    omega
theorem cp_B_mv {cN fN lN ins fc : Nat} {pre W post : List cp_N} (hB : cp_B cN fN lN ins fc pre (W ++ post) f_cells f_functions f_limit f_inserted f_freeCount f_heapSize a_kindOf a_subjectOf a_valueOf a_labelOf a_ownerOf a_leaveOf a_pcOf a_snapshot a_alive a_queued a_free a_heap) : cp_B cN fN lN ins fc (pre ++ W) post f_cells f_functions f_limit f_inserted f_freeCount f_heapSize a_kindOf a_subjectOf a_valueOf a_labelOf a_ownerOf a_leaveOf a_pcOf a_snapshot a_alive a_queued a_free a_heap := by
  obtain ⟨n0, hR, hL, ⟨hc1, hc2, hc3⟩, hH, hqk, hA, hF, hLq⟩ := hB
  rw [← List.append_assoc] at hR hL hc1 hqk hA hF
  refine ⟨?_, hR, hL, ⟨hc1, fun g hg => hc2 g (List.mem_append.mpr (Or.inr hg)), fun p y e => ?_⟩, hH, hqk, hA, hF, hLq⟩
  · rw [← List.append_assoc] at n0; exact n0
  · rcases cp_nc W with rfl | ⟨W', w, rfl⟩
    · rw [List.append_nil] at e; exact hc3 p y e
    · rw [← List.append_assoc] at e
      have := List.append_inj' e rfl
      obtain rfl : w = y := (List.cons.inj this.2).1
      have := hc2 w (List.mem_append.mpr (Or.inl (List.mem_append.mpr (Or.inr List.mem_cons_self))))
      omega
/-- an ENTER of the list shows a frame -/
theorem cp_SP_of {cN fN lN ins fc : Nat} {pre post : List cp_N} (hB : cp_B cN fN lN ins fc pre post f_cells f_functions f_limit f_inserted f_freeCount f_heapSize a_kindOf a_subjectOf a_valueOf a_labelOf a_ownerOf a_leaveOf a_pcOf a_snapshot a_alive a_queued a_free a_heap) {g : cp_N} (hg : g ∈ pre ++ post) (hk : cp_k g = 0) : cp_SP a_free fc a_kindOf a_subjectOf a_valueOf fN (cp_id g) (cp_s g) (cp_v g) := by
  obtain ⟨⟨y1, y2, y3, y4, y5⟩, y6, y7, y8, y9, y10, _⟩ := hB.2.1 g hg
  refine ⟨y1, y3, y4, (y10 hk).1, fun i hi e => ?_, y2.trans hk⟩
  obtain ⟨n, hn, en, _, hno⟩ := hB.2.2.2.2.2.2.2.1.1 i hi
  rw [en] at e
  exact (hno g hg).1 ((nI_eq (by omega) (by omega)).mp e).symm
theorem cp_open {pst : SX → Prop} {cN fN lN ins fc : Nat} {g0 : cp_N} {p0 post : List cp_N} {z : cp_N} {rest : List cp_F} {X : cp_X} {Xs : List cp_X} (hM : cp_M cN fN lN ins fc g0 (p0 ++ [z]) post (X.1 :: rest) (X :: Xs) f_cells f_functions f_limit f_status f_freeCount f_first f_size f_heapSize f_depth f_cur f_inserted f_overflowed a_bodySizes a_opAt a_aAt a_bAt a_baseValue a_settledValue a_outputValue a_changedMark a_cellHead a_cellTail a_kindOf a_subjectOf a_valueOf a_labelOf a_nextOf a_ownerOf a_leaveOf a_pcOf a_snapshot a_cellPrev a_cellNext a_sourceOf a_alive a_queued a_free a_nodeAt a_indexOf a_heap a_frameEnter a_framePc a_frameZone a_frameWait a_frameRegs) (hcur : f_cur = nI (cp_id z)) (hxw : cp_xw X = -1)
    (hE : cp_E (f_cells, a_bodySizes, a_opAt, a_aAt, a_bAt) (X :: Xs) (X.1 :: rest) post) (hpc : X.1.2.2.2.1 < cp_bz (f_cells, a_bodySizes, a_opAt, a_aAt, a_bAt) X.1.2.1) (hop : cp_op (f_cells, a_bodySizes, a_opAt, a_aAt, a_bAt) X.1 = 10)
    (K : ∀ (q_freeCount q_first q_heapSize q_depth q_cur q_inserted q_overflowed : Int32) (r_cellHead r_cellTail r_kindOf r_subjectOf r_valueOf r_labelOf r_nextOf r_ownerOf r_leaveOf r_pcOf r_snapshot r_cellPrev r_cellNext r_sourceOf r_alive r_queued r_heap r_frameEnter r_framePc r_frameZone r_frameWait r_frameRegs : Nat → Int32), cp_Sx cN fN lN g0 (cp_mu lN ins post (X :: Xs) - 1) f_cells f_functions f_limit f_status q_freeCount q_first f_size q_heapSize q_depth q_cur q_inserted q_overflowed a_bodySizes a_opAt a_aAt a_bAt a_baseValue a_settledValue a_outputValue a_changedMark r_cellHead r_cellTail r_kindOf r_subjectOf r_valueOf r_labelOf r_nextOf r_ownerOf r_leaveOf r_pcOf r_snapshot r_cellPrev r_cellNext r_sourceOf r_alive r_queued a_free a_nodeAt a_indexOf r_heap r_frameEnter r_framePc r_frameZone r_frameWait r_frameRegs → pst (f_cells, f_functions, f_limit, f_status, q_freeCount, q_first, f_size, q_heapSize, q_depth, q_cur, q_inserted, q_overflowed, a_bodySizes, a_opAt, a_aAt, a_bAt, a_baseValue, a_settledValue, a_outputValue, a_changedMark, r_cellHead, r_cellTail, r_kindOf, r_subjectOf, r_valueOf, r_labelOf, r_nextOf, r_ownerOf, r_leaveOf, r_pcOf, r_snapshot, r_cellPrev, r_cellNext, r_sourceOf, r_alive, r_queued, a_free, a_nodeAt, a_indexOf, r_heap, r_frameEnter, r_framePc, r_frameZone, r_frameWait, r_frameRegs)) (KO : ∀ (q_freeCount q_first q_heapSize q_depth q_cur q_inserted q_overflowed : Int32) (r_cellHead r_cellTail r_kindOf r_subjectOf r_valueOf r_labelOf r_nextOf r_ownerOf r_leaveOf r_pcOf r_snapshot r_cellPrev r_cellNext r_sourceOf r_alive r_queued r_heap r_frameEnter r_framePc r_frameZone r_frameWait r_frameRegs : Nat → Int32), cp_Ov (f_cells, a_bodySizes, a_opAt, a_aAt, a_bAt) a_baseValue g0 lN → q_overflowed = 1 → pst (f_cells, f_functions, f_limit, f_status, q_freeCount, q_first, f_size, q_heapSize, q_depth, q_cur, q_inserted, q_overflowed, a_bodySizes, a_opAt, a_aAt, a_bAt, a_baseValue, a_settledValue, a_outputValue, a_changedMark, r_cellHead, r_cellTail, r_kindOf, r_subjectOf, r_valueOf, r_labelOf, r_nextOf, r_ownerOf, r_leaveOf, r_pcOf, r_snapshot, r_cellPrev, r_cellNext, r_sourceOf, r_alive, r_queued, a_free, a_nodeAt, a_indexOf, r_heap, r_frameEnter, r_framePc, r_frameZone, r_frameWait, r_frameRegs)) :
    wpX_openActivation pst (f_cells, f_functions, f_limit, f_status, f_freeCount, f_first, f_size, f_heapSize, f_depth, f_cur, f_inserted, f_overflowed, a_bodySizes, a_opAt, a_aAt, a_bAt, a_baseValue, a_settledValue, a_outputValue, a_changedMark, a_cellHead, a_cellTail, a_kindOf, a_subjectOf, a_valueOf, a_labelOf, a_nextOf, a_ownerOf, a_leaveOf, a_pcOf, a_snapshot, a_cellPrev, a_cellNext, a_sourceOf, a_alive, a_queued, a_free, a_nodeAt, a_indexOf, a_heap, a_frameEnter, upd a_framePc Xs.length (nI (X.1.2.2.2.1 + 1)), a_frameZone, a_frameWait, a_frameRegs) (nI (cp_ra (f_cells, a_bodySizes, a_opAt, a_aAt, a_bAt) X.1)) (cp_vb (f_cells, a_bodySizes, a_opAt, a_aAt, a_bAt) X.1) (cp_xz X) := by
  obtain ⟨t1, t2, t3, t4, t5, t6, t7, t8, t9, t10, t11, t12⟩ := cp_top hM
  have hM0 := hM
  obtain ⟨hB, hI, hN, hf, hne, hSt, hXR, hdp, hdl, hil, hCW, hg0, hRe, hov⟩ := hM
  obtain ⟨i1, i2, i3, i4, i5, i6, i7, i8, i9⟩ := cp_ins hCW t3 t4 hpc
  obtain ⟨raf, era⟩ := i6 hop
  have hXR0 := hXR
  obtain ⟨x1, x2, x3, x4, x5, x6, x7, x8, x9⟩ := hXR
  generalize hcc : cp_ra (f_cells, a_bodySizes, a_opAt, a_aAt, a_bAt) X.1 = c at raf era ⊢
  generalize hvv : cp_vb (f_cells, a_bodySizes, a_opAt, a_aAt, a_bAt) X.1 = v
  unfold wpX_openActivation
  by_cases hfull : ins = lN
  · refine cp_append_full (by rw [hB.1.2.2.2.2.2.1, hB.1.2.2.2.2.2.2.2.1, hfull]; exact Int32.le_refl _) ?_
    refine br_f (by decide) ?_
    refine KO _ _ _ _ _ _ _ _ _ _ _ _ _ _ _ _ _ _ _ _ _ _ _ _ _ _ _ _ _ ?_ rfl
    exact cp_Ov_of (g := (0, 0, c, v, 0, 0, fun _ => 0)) hRe ⟨X.1, rest, rfl, Or.inr (Or.inr (Or.inr ⟨hpc, hop, rfl, hcc.symm, hvv.symm, rfl, rfl⟩))⟩ (fun k => absurd k (show ¬ (0 : Int32) = 1 by decide)) (by omega)
  · have hlt : ins < lN := by omega
    have hfc : ∃ fc', fc = fc' + 1 := ⟨fc - 1, by have := hB.1.2.2.2.2.2.2.2.2.2.2.1; omega⟩
    obtain ⟨fc, rfl⟩ := hfc
    obtain ⟨n, hn, en, hqn, hno⟩ := hB.2.2.2.2.2.2.2.1.1 fc (by omega)
    have hzm : z ∈ p0 ++ [z] ++ post := List.mem_append.mpr (Or.inl (List.mem_append.mpr (Or.inr List.mem_cons_self)))
    have hz := (hB.2.1 z hzm).1.1
    refine cp_append hB.1.2.2.2.2.2.2.2.2.2.1 (by have := hB.1.2.2.2.2.2.2.2.2.2.2.2.1; omega) hB.1.2.2.2.2.2.2.2.1 hB.1.2.2.2.2.2.1 hlt t8 en hn hcur hz ?_
    rw [cp_upd_same hqn]
    generalize hg : ((n, 0, c, v, n, 0, fun _ => 0) : cp_N) = g
    have gid : cp_id g = n := by rw [← hg]
    have gk : cp_k g = 0 := by rw [← hg]
    have gs : cp_s g = c := by rw [← hg]
    have gv : cp_v g = v := by rw [← hg]
    have go : cp_o g = n := by rw [← hg]
    clear hg
    subst gid gs gv
    have egid : (nI (cp_id g)).toNatClampNeg = cp_id g := nI_clamp (by omega)
    have ing : vp_in (nI (cp_id g)) 256 := vp_in_nI hn (by decide)
    have hgn : ∀ x ∈ p0 ++ [z] ++ post, cp_id x ≠ cp_id g := fun x hx => (hno x hx).1
    refine br_t (nI_pos' (by omega)) (And.intro ing ?_)
    rw [egid]
    refine nm_e (And.intro ing (nm_e ?_))
    refine cp_pushFrame (d := Xs.length + 1) hdp (by omega) ?_
    intro frg' hr1 hr2
    refine br_f (nI_pos (by omega)) ?_
    have e4 : nI (Xs.length + 1) * 4 = nI ((Xs.length + 1) * 4 + 0) := pk_mul (Xs.length + 1) 4
    rw [e4, nI_clamp (n := (Xs.length + 1) * 4 + 0) (by omega)]
    refine And.intro (vp_in_nI (by omega) (by decide)) (nm_e ?_)
    have hXm := cp_E_mem _ _ _ hE
    have hXn : ∀ Y ∈ X :: Xs, Y.1.1 ≠ cp_id g := fun Y hY e => (hSt Y.1 (hXm Y hY)).2.2.2.2.1 fc (by omega) (by rw [en, e])
    have hXR1 := cp_XR_top (X := X) (Xs := Xs) (fp' := upd a_framePc Xs.length (nI (X.1.2.2.2.1 + 1))) (frg' := a_frameRegs) (lv' := upd (upd a_leaveOf (cp_id g) (-1)) (cp_id g) (-1)) (p := X.1.2.2.2.1 + 1)
      hXR0 pk_us (by omega) x6 (fun i hi => ⟨pk_un (by omega), rfl⟩) (fun Y hY => by rw [pk_un (hXn Y hY), pk_un (hXn Y hY)])
    have hXR2 : cp_XR (upd a_frameEnter (Xs.length + 1) (nI (cp_id g))) (upd (upd a_framePc Xs.length (nI (X.1.2.2.2.1 + 1))) (Xs.length + 1) 0) (upd a_frameZone (Xs.length + 1) (cp_xz X)) (upd a_frameWait (Xs.length + 1) (-1)) (upd frg' ((Xs.length + 1) * 4 + 0) (cp_v g)) (upd (upd a_leaveOf (cp_id g) (-1)) (cp_id g) (-1)) ((cp_nf g, cp_xz X, -1, -1) :: ((cp_nx X.1, X.2) : cp_X) :: Xs) := by
      refine ⟨pk_us, pk_us, Nat.zero_le _, pk_us, pk_us, ?_, pk_us, fun _ Y hY => ?_, ?_⟩
      · show cp_rg (upd frg' ((Xs.length + 1) * 4 + 0) (cp_v g)) (Xs.length + 1) = _
        rw [cp_rg_upd (by decide), hr1]; rfl
      · rcases List.mem_cons.mp hY with rfl | hY
        · exact hXn X List.mem_cons_self
        · exact hXn Y (List.mem_cons_of_mem _ hY)
      · refine cp_XR_fr _ (fun i hi => ?_) (fun _ _ => rfl) hXR1
        have hi' : i < Xs.length + 1 := hi
        refine ⟨pk_un (by omega), pk_un (by omega), pk_un (by omega), pk_un (by omega), ?_⟩
        rw [cp_rg_ne (by decide) (by omega), hr2 i (by omega)]
    have hCI : cp_CI a_cellHead a_cellTail a_cellPrev a_cellNext a_sourceOf a_queued a_baseValue (p0 ++ [z] ++ g :: post) :=
      (cp_CI_skip (p := p0 ++ [z]) (q := post) (by rw [gk]; decide)).mpr hI
    have hOC : cp_OC (f_cells, a_bodySizes, a_opAt, a_aAt, a_bAt) (X.1 :: rest) g (cp_nf g :: cp_nx X.1 :: rest) :=
      ⟨X.1, rest, rfl, Or.inr (Or.inr (Or.inr ⟨hpc, hop, gk, hcc.symm, hvv.symm, go, rfl⟩))⟩
    have hMn := cp_M_app (g := g) (st' := cp_nf g :: cp_nx X.1 :: rest) (Xs' := (cp_nf g, cp_xz X, -1, -1) :: ((cp_nx X.1, X.2) : cp_X) :: Xs)
      (vl' := upd a_valueOf (cp_id g) (cp_v g)) (ow' := upd (upd a_ownerOf (cp_id g) (-1)) (cp_id g) (nI (cp_id g))) (lv' := upd (upd a_leaveOf (cp_id g) (-1)) (cp_id g) (-1)) (pc' := a_pcOf) (sn' := a_snapshot) (cur' := nI (cp_id g)) (sz' := f_heapSize) (hp' := a_heap) (qd' := a_queued)
      hM0 hlt hn en (fun m h => pk_un h) pk_us (fun m h => by rw [pk_un h, pk_un h]) (by rw [pk_us, go]) (fun x hx _ => by rw [pk_un (hno x hx).2, pk_un (hno x hx).2]) (fun k => by rw [gk] at k; exact absurd k (by decide)) (fun m h => rfl) (fun m h => rfl)
      (fun k => by rw [gk] at k; exact absurd k (by decide)) (Or.inl gk) (fun k => by rw [gk] at k; exact absurd k (by decide)) (fun _ => ⟨raf, go⟩) (by rw [go]; exact hn)
      (fun i hi => by rw [go]; intro e; have := hB.2.2.2.2.2.2.2.1.2 i fc (by omega) (by omega) (by rw [e, en]); omega)
      (cp_H_lab (fun m _ h => pk_un (fun e => by rw [e] at h; exact h hqn)) hB.2.2.2.2.1) (fun _ h => Or.inl h) hCI
      (fun A hA => by
        rcases List.mem_cons.mp hA with rfl | hA
        · exact Or.inr ⟨gk, rfl, rfl, rfl⟩
        · rcases List.mem_cons.mp hA with rfl | hA
          · exact Or.inl ⟨X.1, List.mem_cons_self, rfl, rfl, rfl⟩
          · exact Or.inl ⟨A, List.mem_cons_of_mem _ hA, rfl, rfl, rfl⟩)
      hXR2 (by have : (X :: Xs).length = Xs.length + 1 := rfl; have : ((cp_nf g, cp_xz X, -1, -1) :: ((cp_nx X.1, X.2) : cp_X) :: Xs).length = Xs.length + 1 + 1 := rfl; omega)
      (cp_Re_ms hRe (Or.inr ⟨g, hOC, fun k => by rw [gk] at k; exact absurd k (by decide), rfl⟩))
    refine K _ _ _ _ _ _ _ _ _ _ _ _ _ _ _ _ _ _ _ _ _ _ _ _ _ _ _ _ _ ⟨ins + 1, fc, p0 ++ [z] ++ [g], post, cp_nf g :: cp_nx X.1 :: rest, (cp_nf g, cp_xz X, -1, -1) :: ((cp_nx X.1, X.2) : cp_X) :: Xs, ?_, Or.inl ⟨?_, ?_, ⟨(cp_nf g, cp_xz X, -1, -1), ((cp_nx X.1, X.2) : cp_X) :: Xs, rfl, rfl⟩, ?_⟩⟩
    · have := cp_mx_step (X := X) (X' := ((cp_nx X.1, X.2) : cp_X)) (Xs := Xs) (p := 0) i1 rfl rfl
      have h2 : cp_mx ((cp_nf g, cp_xz X, -1, -1) :: ((cp_nx X.1, X.2) : cp_X) :: Xs) = 34 + cp_mx (((cp_nx X.1, X.2) : cp_X) :: Xs) := rfl
      unfold cp_mu
      omega
    · rw [gk] at hMn
      exact hMn
    · exact (cp_lt_snoc _ _ _).symm
    · exact ⟨cp_nx X.1 :: rest, rfl, Or.inl ⟨rfl, Or.inr ⟨((cp_nx X.1, X.2) : cp_X), Xs, rfl, rfl, hxw, cp_E_top hE rfl rfl rfl rfl rfl⟩⟩⟩
theorem cp_doCall {pst : SX → Prop} {cN fN lN ins fc : Nat} {g0 : cp_N} {p0 post : List cp_N} {z : cp_N} {rest : List cp_F} {X : cp_X} {Xs : List cp_X} (hM : cp_M cN fN lN ins fc g0 (p0 ++ [z]) post (X.1 :: rest) (X :: Xs) f_cells f_functions f_limit f_status f_freeCount f_first f_size f_heapSize f_depth f_cur f_inserted f_overflowed a_bodySizes a_opAt a_aAt a_bAt a_baseValue a_settledValue a_outputValue a_changedMark a_cellHead a_cellTail a_kindOf a_subjectOf a_valueOf a_labelOf a_nextOf a_ownerOf a_leaveOf a_pcOf a_snapshot a_cellPrev a_cellNext a_sourceOf a_alive a_queued a_free a_nodeAt a_indexOf a_heap a_frameEnter a_framePc a_frameZone a_frameWait a_frameRegs) (hcur : f_cur = nI (cp_id z)) (hxw : cp_xw X = -1)
    (hE : cp_E (f_cells, a_bodySizes, a_opAt, a_aAt, a_bAt) (X :: Xs) (X.1 :: rest) post) (hpc : X.1.2.2.2.1 < cp_bz (f_cells, a_bodySizes, a_opAt, a_aAt, a_bAt) X.1.2.1) (hop : cp_op (f_cells, a_bodySizes, a_opAt, a_aAt, a_bAt) X.1 = 10)
    (K : ∀ (q_freeCount q_first q_heapSize q_depth q_cur q_inserted q_overflowed : Int32) (r_cellHead r_cellTail r_kindOf r_subjectOf r_valueOf r_labelOf r_nextOf r_ownerOf r_leaveOf r_pcOf r_snapshot r_cellPrev r_cellNext r_sourceOf r_alive r_queued r_heap r_frameEnter r_framePc r_frameZone r_frameWait r_frameRegs : Nat → Int32), cp_Sx cN fN lN g0 (cp_mu lN ins post (X :: Xs) - 1) f_cells f_functions f_limit f_status q_freeCount q_first f_size q_heapSize q_depth q_cur q_inserted q_overflowed a_bodySizes a_opAt a_aAt a_bAt a_baseValue a_settledValue a_outputValue a_changedMark r_cellHead r_cellTail r_kindOf r_subjectOf r_valueOf r_labelOf r_nextOf r_ownerOf r_leaveOf r_pcOf r_snapshot r_cellPrev r_cellNext r_sourceOf r_alive r_queued a_free a_nodeAt a_indexOf r_heap r_frameEnter r_framePc r_frameZone r_frameWait r_frameRegs → pst (f_cells, f_functions, f_limit, f_status, q_freeCount, q_first, f_size, q_heapSize, q_depth, q_cur, q_inserted, q_overflowed, a_bodySizes, a_opAt, a_aAt, a_bAt, a_baseValue, a_settledValue, a_outputValue, a_changedMark, r_cellHead, r_cellTail, r_kindOf, r_subjectOf, r_valueOf, r_labelOf, r_nextOf, r_ownerOf, r_leaveOf, r_pcOf, r_snapshot, r_cellPrev, r_cellNext, r_sourceOf, r_alive, r_queued, a_free, a_nodeAt, a_indexOf, r_heap, r_frameEnter, r_framePc, r_frameZone, r_frameWait, r_frameRegs)) (KO : ∀ (q_freeCount q_first q_heapSize q_depth q_cur q_inserted q_overflowed : Int32) (r_cellHead r_cellTail r_kindOf r_subjectOf r_valueOf r_labelOf r_nextOf r_ownerOf r_leaveOf r_pcOf r_snapshot r_cellPrev r_cellNext r_sourceOf r_alive r_queued r_heap r_frameEnter r_framePc r_frameZone r_frameWait r_frameRegs : Nat → Int32), cp_Ov (f_cells, a_bodySizes, a_opAt, a_aAt, a_bAt) a_baseValue g0 lN → q_overflowed = 1 → pst (f_cells, f_functions, f_limit, f_status, q_freeCount, q_first, f_size, q_heapSize, q_depth, q_cur, q_inserted, q_overflowed, a_bodySizes, a_opAt, a_aAt, a_bAt, a_baseValue, a_settledValue, a_outputValue, a_changedMark, r_cellHead, r_cellTail, r_kindOf, r_subjectOf, r_valueOf, r_labelOf, r_nextOf, r_ownerOf, r_leaveOf, r_pcOf, r_snapshot, r_cellPrev, r_cellNext, r_sourceOf, r_alive, r_queued, a_free, a_nodeAt, a_indexOf, r_heap, r_frameEnter, r_framePc, r_frameZone, r_frameWait, r_frameRegs)) :
    wpX_doCall pst (f_cells, f_functions, f_limit, f_status, f_freeCount, f_first, f_size, f_heapSize, f_depth, f_cur, f_inserted, f_overflowed, a_bodySizes, a_opAt, a_aAt, a_bAt, a_baseValue, a_settledValue, a_outputValue, a_changedMark, a_cellHead, a_cellTail, a_kindOf, a_subjectOf, a_valueOf, a_labelOf, a_nextOf, a_ownerOf, a_leaveOf, a_pcOf, a_snapshot, a_cellPrev, a_cellNext, a_sourceOf, a_alive, a_queued, a_free, a_nodeAt, a_indexOf, a_heap, a_frameEnter, upd a_framePc Xs.length (nI (X.1.2.2.2.1 + 1)), a_frameZone, a_frameWait, a_frameRegs) (nI Xs.length) (nI (X.1.2.1 * 16 + X.1.2.2.2.1)) := by
  obtain ⟨t1, t2, t3, t4, t5, t6, t7, t8, t9, t10, t11, t12⟩ := cp_top hM
  have hM0 := hM
  obtain ⟨hB, hI, hN, hf, hne, hSt, hXR, hdp, hdl, hil, hCW, hg0, hRe, hov⟩ := hM
  obtain ⟨i1, i2, i3, i4, i5, i6, i7, i8, i9⟩ := cp_ins hCW t3 t4 hpc
  obtain ⟨raf, era⟩ := i6 hop
  obtain ⟨b, hb, eb⟩ := i9 (by rw [hop]; decide) (by rw [hop]; decide) (by rw [hop]; decide)
  have hXR0 := hXR
  obtain ⟨x1, x2, x3, x4, x5, x6, x7, x8, x9⟩ := hXR
  have es : (nI (X.1.2.1 * 16 + X.1.2.2.2.1)).toNatClampNeg = X.1.2.1 * 16 + X.1.2.2.2.1 := nI_clamp (by omega)
  have ins_ : vp_in (nI (X.1.2.1 * 16 + X.1.2.2.2.1)) 96 := vp_in_nI i2 (by decide)
  have ed : (nI Xs.length).toNatClampNeg = Xs.length := nI_clamp (by omega)
  have ind : vp_in (nI Xs.length) 256 := vp_in_nI (by omega) (by decide)
  have eb' : a_bAt (X.1.2.1 * 16 + X.1.2.2.2.1) = nI b := eb
  have era' : a_aAt (X.1.2.1 * 16 + X.1.2.2.2.1) = nI (cp_ra (f_cells, a_bodySizes, a_opAt, a_aAt, a_bAt) X.1) := era
  have hvb : a_frameRegs (Xs.length * 4 + b) = cp_vb (f_cells, a_bodySizes, a_opAt, a_aAt, a_bAt) X.1 := by
    unfold cp_vb
    rw [eb, nI_clamp (by omega), ← x6, cp_rg_at hb]
  have e4 : nI Xs.length * 4 + nI b = nI (Xs.length * 4 + b) := by rw [← nI_add, ← pk_mul]; rfl
  refine And.intro ins_ ?_
  rw [es]
  refine nm_r era' (And.intro ins_ ?_)
  rw [eb', e4, nI_clamp (n := Xs.length * 4 + b) (by omega)]
  refine And.intro (vp_in_nI (by omega) (by decide)) (nm_r hvb (And.intro ind ?_))
  rw [ed]
  refine nm_r x4 ?_
  have hobs := cp_E_obs _ _ _ _ hE
  refine cp_findOld (p0 := p0) (z := z) (post := post) hB hN hcur (by omega) ?_ ?_ ?_
  · rcases hobs with ⟨h, _⟩ | ⟨O, zn, p1, h1, h2, _⟩
    · exact Or.inl h
    · exact Or.inr ⟨O, zn, p1, h1, h2⟩
  · exact br_t (by decide) (cp_open hM0 hcur hxw hE hpc hop K KO)
  · intro O1 g O2 hzz gk gs gv
    obtain ⟨zn', rest', epost, hzn'⟩ := hzz
    rcases hobs with ⟨_, h⟩ | ⟨O, zn, p1, h1, h2, h3, h4, h5⟩
    · rw [h] at epost
      cases O1 <;> cases epost
    · -- the two cuts at the zone agree
      have hU := cp_U_app.mp (cp_Lb_U hB.2.2.1)
      have hzeq : zn' = zn := by
        refine cp_U_inj hU.2.1 (by rw [epost]; exact List.mem_append.mpr (Or.inr List.mem_cons_self)) (by rw [h1]; exact List.mem_append.mpr (Or.inr List.mem_cons_self)) ?_
        have m1 := (hB.2.1 zn' (List.mem_append.mpr (Or.inr (by rw [epost]; exact List.mem_append.mpr (Or.inr List.mem_cons_self))))).1.1
        have m2 := (hB.2.1 zn (List.mem_append.mpr (Or.inr (by rw [h1]; exact List.mem_append.mpr (Or.inr List.mem_cons_self))))).1.1
        exact (nI_eq (by omega) (by omega)).mp (hzn'.symm.trans h2)
      subst hzeq
      have hOe : O1 ++ g :: O2 = O := by
        refine cp_split_uniq (b := rest') (b' := p1) (g := zn') ?_ ?_
        · rw [← epost]; exact hU.2.1
        · rw [← epost]; exact h1
      subst hOe
      have hpe : rest' = p1 := by
        have := epost.symm.trans h1
        have := List.append_cancel_left this
        exact (List.cons.inj this).2
      subst hpe
      have hgm : g ∈ p0 ++ [z] ++ post := List.mem_append.mpr (Or.inr (by rw [epost]; exact List.mem_append.mpr (Or.inl (List.mem_append.mpr (Or.inr List.mem_cons_self)))))
      have hgR := hB.2.1 g hgm
      have hgi := hgR.1.1
      refine br_f (nI_pos (by omega)) ?_
      have epost2 : post = O1 ++ g :: (O2 ++ zn' :: rest') := by rw [epost]; simp
      obtain ⟨c, d, eO2, nr, hRp⟩ := h4 O1 g O2 rfl gk
      obtain ⟨O', zl, ec, zk, zs, zv, zo, _⟩ := cp_OR_last nr nr (cp_nf g) c (Nat.le_refl _) hRp
      have hzlm : zl ∈ p0 ++ [z] ++ post := List.mem_append.mpr (Or.inr (by rw [epost2, eO2, ec]; simp))
      have hzlR := hB.2.1 zl hzlm
      have hlvg : a_leaveOf (cp_id g) = nI (cp_id zl) := by
        have := hzlR.2.2.2.2.2.2.1 zk
        rw [zo] at this; exact this
      have hltc : cp_lt (nI (cp_id g)) c = nI (cp_id zl) := by rw [ec, cp_lt_snoc]
      subst epost2
      refine cp_discard (p0 := p0) (z := z) (O := O1) (sp := g) (rest := O2 ++ zn' :: rest') hcur hB hI hN ?_
      intro al' hd' tl' pv' nx' src' sz' hp' qd' k1 k2 k3
      refine And.intro (vp_in_nI hgi (by decide)) (And.intro ind ?_)
      rw [nI_clamp (n := cp_id g) (by omega), hlvg]
      refine nm_e ?_
      have epc : g :: (O2 ++ zn' :: rest') = [g] ++ (c ++ (d ++ zn' :: rest')) := by rw [eO2]; simp
      rw [epc] at k1 k2 k3
      have k1' := cp_B_mv k1
      rw [← List.append_assoc] at k2 k3
      have hOC : cp_OC (f_cells, a_bodySizes, a_opAt, a_aAt, a_bAt) (X.1 :: rest) g (cp_nf g :: cp_nx X.1 :: rest) :=
        ⟨X.1, rest, rfl, Or.inr (Or.inr (Or.inr ⟨hpc, hop, gk, gs, gv, (hgR.2.2.2.2.2.1 gk).2, rfl⟩))⟩
      have hSPg := cp_SP_of hB hgm gk
      have hXR1 := cp_XR_top (X := X) (Xs := Xs) (fp' := upd a_framePc Xs.length (nI (X.1.2.2.2.1 + 1))) (frg' := a_frameRegs) (lv' := a_leaveOf) (p := X.1.2.2.2.1 + 1)
        hXR0 pk_us (by omega) x6 (fun i hi => ⟨pk_un (by omega), rfl⟩) (fun _ _ => rfl)
      have hXR2 : cp_XR a_frameEnter (upd a_framePc Xs.length (nI (X.1.2.2.2.1 + 1))) a_frameZone (upd a_frameWait Xs.length (nI (cp_id zl))) a_frameRegs a_leaveOf ((cp_nx X.1, cp_xz X, nI (cp_id zl), cp_xl X) :: Xs) := by
        obtain ⟨y1, y2, y3, y4, y5, y6, y7, y8, y9⟩ := hXR1
        exact ⟨y1, y2, y3, y4, pk_us, y6, y7, y8, cp_XR_fr Xs (fun i hi => ⟨rfl, rfl, rfl, pk_un (by omega), rfl⟩) (fun _ _ => rfl) y9⟩
      refine K _ _ _ _ _ _ _ _ _ _ _ _ _ _ _ _ _ _ _ _ _ _ _ _ _ _ _ _ _ ⟨ins, fc, p0 ++ [z] ++ [g], c ++ (d ++ zn' :: rest'), cp_nf g :: cp_nx X.1 :: rest, (cp_nx X.1, cp_xz X, nI (cp_id zl), cp_xl X) :: Xs, ?_, Or.inr ⟨⟨k1', k2, k3, ?_, ⟨_, _, rfl⟩, ?_, hXR2, hdp, ?_, ?_, hCW, hg0, ?_, hov⟩, ?_⟩⟩
      · have h16 := cp_mx_step (X := X) (X' := ((cp_nx X.1, X.2) : cp_X)) (Xs := Xs) (p := 0) i1 rfl rfl
        have hm : cp_mx ((cp_nx X.1, cp_xz X, nI (cp_id zl), cp_xl X) :: Xs) ≤ cp_mx (((cp_nx X.1, X.2) : cp_X) :: Xs) + 1 := by
          show 2 * (17 - min (X.1.2.2.2.1 + 1) 16) + (if nI (cp_id zl) = -1 then 0 else 1) + cp_mx Xs ≤ 2 * (17 - min (X.1.2.2.2.1 + 1) 16) + (if cp_xw X = -1 then 0 else 1) + cp_mx Xs + 1
          rw [if_pos hxw]; split <;> omega
        have hl : (O1 ++ g :: (O2 ++ zn' :: rest')).length = O1.length + ((c ++ (d ++ zn' :: rest')).length + 1) := by rw [eO2]; simp
        unfold cp_mu
        omega
      · rw [hf, cp_hx_ne hne]
      · intro A hA
        rcases List.mem_cons.mp hA with rfl | hA
        · exact hSPg
        · rcases List.mem_cons.mp hA with rfl | hA
          · exact hSt X.1 List.mem_cons_self
          · exact hSt A (List.mem_cons_of_mem _ hA)
      · have : (X :: Xs).length = Xs.length + 1 := rfl
        have : ((cp_nx X.1, cp_xz X, nI (cp_id zl), cp_xl X) :: Xs).length = Xs.length + 1 := rfl
        have : (p0 ++ [z] ++ [g]).length = (p0 ++ [z]).length + 1 := by simp
        omega
      · have : (p0 ++ [z] ++ [g]).length = (p0 ++ [z]).length + 1 := by simp
        omega
      · exact cp_Re_ms hRe (Or.inr ⟨g, hOC, fun k => by rw [gk] at k; exact absurd k (by decide), rfl⟩)
      · refine ⟨[cp_nf g], cp_nx X.1 :: rest, c, d ++ zn' :: rest', rfl, rfl, ⟨nr, hRp⟩, Or.inr ⟨_, Xs, rfl, ?_, ?_⟩⟩
        · rw [cp_lt_snoc, hltc]
        · refine cp_E_top (h5 d ?_) rfl rfl rfl rfl rfl
          have : O1 ++ g :: O2 = (O1 ++ g :: c) ++ d := by rw [eO2]; simp
          rw [this] at h4
          exact cp_Sg_suf h4
end
end
section
/-! ===== closeActivation, executeStep ===== -/
section
variable {f_cells f_functions f_limit f_status f_freeCount f_first f_size f_heapSize f_depth f_cur f_inserted f_overflowed : Int32} {a_bodySizes a_opAt a_aAt a_bAt a_baseValue a_settledValue a_outputValue a_changedMark a_cellHead a_cellTail a_kindOf a_subjectOf a_valueOf a_labelOf a_nextOf a_ownerOf a_leaveOf a_pcOf a_snapshot a_cellPrev a_cellNext a_sourceOf a_alive a_queued a_free a_nodeAt a_indexOf a_heap a_frameEnter a_framePc a_frameZone a_frameWait a_frameRegs : Nat → Int32}
theorem cp_close {pst : SX → Prop} {cN fN lN ins fc : Nat} {g0 : cp_N} {p0 post : List cp_N} {z : cp_N} {rest : List cp_F} {X : cp_X} {Xs : List cp_X} (hM : cp_M cN fN lN ins fc g0 (p0 ++ [z]) post (X.1 :: rest) (X :: Xs) f_cells f_functions f_limit f_status f_freeCount f_first f_size f_heapSize f_depth f_cur f_inserted f_overflowed a_bodySizes a_opAt a_aAt a_bAt a_baseValue a_settledValue a_outputValue a_changedMark a_cellHead a_cellTail a_kindOf a_subjectOf a_valueOf a_labelOf a_nextOf a_ownerOf a_leaveOf a_pcOf a_snapshot a_cellPrev a_cellNext a_sourceOf a_alive a_queued a_free a_nodeAt a_indexOf a_heap a_frameEnter a_framePc a_frameZone a_frameWait a_frameRegs) (hcur : f_cur = nI (cp_id z)) (hxw : cp_xw X = -1)
    (hE : cp_E (f_cells, a_bodySizes, a_opAt, a_aAt, a_bAt) (X :: Xs) (X.1 :: rest) post) (hpc : cp_bz (f_cells, a_bodySizes, a_opAt, a_aAt, a_bAt) X.1.2.1 ≤ X.1.2.2.2.1)
    (K : ∀ (q_freeCount q_first q_heapSize q_depth q_cur q_inserted q_overflowed : Int32) (r_cellHead r_cellTail r_kindOf r_subjectOf r_valueOf r_labelOf r_nextOf r_ownerOf r_leaveOf r_pcOf r_snapshot r_cellPrev r_cellNext r_sourceOf r_alive r_queued r_heap r_frameEnter r_framePc r_frameZone r_frameWait r_frameRegs : Nat → Int32), cp_Sx cN fN lN g0 (cp_mu lN ins post (X :: Xs) - 1) f_cells f_functions f_limit f_status q_freeCount q_first f_size q_heapSize q_depth q_cur q_inserted q_overflowed a_bodySizes a_opAt a_aAt a_bAt a_baseValue a_settledValue a_outputValue a_changedMark r_cellHead r_cellTail r_kindOf r_subjectOf r_valueOf r_labelOf r_nextOf r_ownerOf r_leaveOf r_pcOf r_snapshot r_cellPrev r_cellNext r_sourceOf r_alive r_queued a_free a_nodeAt a_indexOf r_heap r_frameEnter r_framePc r_frameZone r_frameWait r_frameRegs → pst (f_cells, f_functions, f_limit, f_status, q_freeCount, q_first, f_size, q_heapSize, q_depth, q_cur, q_inserted, q_overflowed, a_bodySizes, a_opAt, a_aAt, a_bAt, a_baseValue, a_settledValue, a_outputValue, a_changedMark, r_cellHead, r_cellTail, r_kindOf, r_subjectOf, r_valueOf, r_labelOf, r_nextOf, r_ownerOf, r_leaveOf, r_pcOf, r_snapshot, r_cellPrev, r_cellNext, r_sourceOf, r_alive, r_queued, a_free, a_nodeAt, a_indexOf, r_heap, r_frameEnter, r_framePc, r_frameZone, r_frameWait, r_frameRegs)) (KO : ∀ (q_freeCount q_first q_heapSize q_depth q_cur q_inserted q_overflowed : Int32) (r_cellHead r_cellTail r_kindOf r_subjectOf r_valueOf r_labelOf r_nextOf r_ownerOf r_leaveOf r_pcOf r_snapshot r_cellPrev r_cellNext r_sourceOf r_alive r_queued r_heap r_frameEnter r_framePc r_frameZone r_frameWait r_frameRegs : Nat → Int32), cp_Ov (f_cells, a_bodySizes, a_opAt, a_aAt, a_bAt) a_baseValue g0 lN → q_overflowed = 1 → pst (f_cells, f_functions, f_limit, f_status, q_freeCount, q_first, f_size, q_heapSize, q_depth, q_cur, q_inserted, q_overflowed, a_bodySizes, a_opAt, a_aAt, a_bAt, a_baseValue, a_settledValue, a_outputValue, a_changedMark, r_cellHead, r_cellTail, r_kindOf, r_subjectOf, r_valueOf, r_labelOf, r_nextOf, r_ownerOf, r_leaveOf, r_pcOf, r_snapshot, r_cellPrev, r_cellNext, r_sourceOf, r_alive, r_queued, a_free, a_nodeAt, a_indexOf, r_heap, r_frameEnter, r_framePc, r_frameZone, r_frameWait, r_frameRegs)) :
    wpX_closeActivation pst (f_cells, f_functions, f_limit, f_status, f_freeCount, f_first, f_size, f_heapSize, f_depth, f_cur, f_inserted, f_overflowed, a_bodySizes, a_opAt, a_aAt, a_bAt, a_baseValue, a_settledValue, a_outputValue, a_changedMark, a_cellHead, a_cellTail, a_kindOf, a_subjectOf, a_valueOf, a_labelOf, a_nextOf, a_ownerOf, a_leaveOf, a_pcOf, a_snapshot, a_cellPrev, a_cellNext, a_sourceOf, a_alive, a_queued, a_free, a_nodeAt, a_indexOf, a_heap, a_frameEnter, a_framePc, a_frameZone, a_frameWait, a_frameRegs) (nI Xs.length) := by
  obtain ⟨t1, t2, t3, t4, t5, t6, t7, t8, t9, t10, t11, t12⟩ := cp_top hM
  have hM0 := hM
  obtain ⟨hB, hI, hN, hf, hne, hSt, hXR, hdp, hdl, hil, hCW, hg0, hRe, hov⟩ := hM
  obtain ⟨x1, x2, x3, x4, x5, x6, x7, x8, x9⟩ := hXR
  have ed : (nI Xs.length).toNatClampNeg = Xs.length := nI_clamp (by omega)
  have ind : vp_in (nI Xs.length) 256 := vp_in_nI (by omega) (by decide)
  have ee : (nI X.1.1).toNatClampNeg = X.1.1 := nI_clamp (by omega)
  have ine : vp_in (nI X.1.1) 256 := vp_in_nI t2 (by decide)
  have hl1 : (X :: Xs).length = Xs.length + 1 := rfl
  have hmx : cp_mx (X :: Xs) = 2 * (17 - min X.1.2.2.2.1 16) + (if cp_xw X = -1 then 0 else 1) + cp_mx Xs := rfl
  refine And.intro ind ?_
  rw [ed]
  refine nm_r x1 (And.intro ine ?_)
  rw [ee]
  refine nm_r x7 ?_
  have hXm := cp_E_mem _ _ _ hE
  obtain ⟨rest', erest, hE'⟩ := hE
  obtain rfl : rest = rest' := (List.cons.inj erest).2
  rcases hE' with ⟨kl, hE'⟩ | ⟨zl, O, p1, V, st', W, p', a1, a2, a3, a4, a5, a6, a7, a8, a9, a10, a11, a12⟩
  · -- a new activation gets its LEAVE
    refine br_t (by rw [kl]; exact cp_m1neg) (And.intro ine (And.intro ine ?_))
    rw [t11, t12]
    by_cases hfull : ins = lN
    · refine cp_append_full (by rw [hB.1.2.2.2.2.2.1, hB.1.2.2.2.2.2.2.2.1, hfull]; exact Int32.le_refl _) ?_
      refine br_f (by decide) ?_
      refine KO _ _ _ _ _ _ _ _ _ _ _ _ _ _ _ _ _ _ _ _ _ _ _ _ _ _ _ _ _ ?_ rfl
      exact cp_Ov_of (g := (0, 3, X.1.2.1, X.1.2.2.1, X.1.1, 0, fun _ => 0)) hRe ⟨X.1, rest, rfl, Or.inr (Or.inr (Or.inl ⟨hpc, rfl, rfl, rfl, rfl, rfl⟩))⟩ (fun k => absurd k (show ¬ (3 : Int32) = 1 by decide)) (by omega)
    · have hlt : ins < lN := by omega
      have hfc : ∃ fc', fc = fc' + 1 := ⟨fc - 1, by have := hB.1.2.2.2.2.2.2.2.2.2.2.1; omega⟩
      obtain ⟨fc, rfl⟩ := hfc
      obtain ⟨n, hn, en, hqn, hno⟩ := hB.2.2.2.2.2.2.2.1.1 fc (by omega)
      have hzm : z ∈ p0 ++ [z] ++ post := List.mem_append.mpr (Or.inl (List.mem_append.mpr (Or.inr List.mem_cons_self)))
      have hz := (hB.2.1 z hzm).1.1
      refine cp_append hB.1.2.2.2.2.2.2.2.2.2.1 (by have := hB.1.2.2.2.2.2.2.2.2.2.2.2.1; omega) hB.1.2.2.2.2.2.2.2.1 hB.1.2.2.2.2.2.1 hlt t8 en hn hcur hz ?_
      rw [cp_upd_same hqn]
      generalize hg : ((n, 3, X.1.2.1, X.1.2.2.1, X.1.1, 0, fun _ => 0) : cp_N) = g
      have gid : cp_id g = n := by rw [← hg]
      have gk : cp_k g = 3 := by rw [← hg]
      have gs : cp_s g = X.1.2.1 := by rw [← hg]
      have gv : cp_v g = X.1.2.2.1 := by rw [← hg]
      have go : cp_o g = X.1.1 := by rw [← hg]
      clear hg
      subst gid
      refine br_t (nI_pos' (by omega)) (And.intro ine ?_)
      refine nm_e (nm_r t6 ?_)
      have hXn : ∀ Y ∈ X :: Xs, Y.1.1 ≠ cp_id g := fun Y hY e => (hSt Y.1 (hXm Y hY)).2.2.2.2.1 fc (by omega) (by rw [en, e])
      have hlve : ∀ x ∈ p0 ++ [z] ++ post, cp_k x = 3 → cp_o x ≠ X.1.1 := by
        intro x hx k e
        have h1 := (hB.2.1 x hx).2.2.2.2.2.2.1 k
        rw [e, x7, kl] at h1
        have h2 : ¬ nI (cp_id x) < 0 := nI_pos (by have := (hB.2.1 x hx).1.1; omega)
        rw [← h1] at h2
        exact h2 cp_m1neg
      have hXR2 : cp_XR a_frameEnter a_framePc a_frameZone a_frameWait a_frameRegs (upd (upd a_leaveOf (cp_id g) (-1)) X.1.1 (nI (cp_id g))) Xs :=
        cp_XR_fr Xs (fun i hi => ⟨rfl, rfl, rfl, rfl, rfl⟩) (fun Y hY => by rw [pk_un (x8 kl Y hY), pk_un (hXn Y (List.mem_cons_of_mem _ hY))]) x9
      have hCI : cp_CI a_cellHead a_cellTail a_cellPrev a_cellNext a_sourceOf a_queued a_baseValue (p0 ++ [z] ++ g :: post) :=
        (cp_CI_skip (p := p0 ++ [z]) (q := post) (by rw [gk]; decide)).mpr hI
      have hOC : cp_OC (f_cells, a_bodySizes, a_opAt, a_aAt, a_bAt) (X.1 :: rest) g rest := ⟨X.1, rest, rfl, Or.inr (Or.inr (Or.inl ⟨hpc, gk, gs, gv, go, rfl⟩))⟩
      have hMn := cp_M_app (g := g) (st' := rest) (Xs' := Xs)
        (vl' := upd a_valueOf (cp_id g) X.1.2.2.1) (ow' := upd a_ownerOf (cp_id g) (nI X.1.1)) (lv' := upd (upd a_leaveOf (cp_id g) (-1)) X.1.1 (nI (cp_id g))) (pc' := a_pcOf) (sn' := a_snapshot) (cur' := nI (cp_id g)) (sz' := f_heapSize) (hp' := a_heap) (qd' := a_queued)
        hM0 hlt hn en (fun m h => pk_un h) (by rw [pk_us, gv]) (fun m h => pk_un h) (by rw [pk_us, go]) (fun x hx k => by rw [pk_un (hlve x hx k), pk_un (hno x hx).2]) (fun k => by rw [go, pk_us]) (fun m h => rfl) (fun m h => rfl)
        (fun k => by rw [gk] at k; exact absurd k (by decide)) (Or.inr (Or.inr (Or.inr gk))) (fun k => by rw [gk] at k; exact absurd k (by decide)) (fun k => by rw [gk] at k; exact absurd k (by decide)) (by rw [go]; exact t2) (fun i hi => by rw [go]; exact t10 i (by omega))
        (cp_H_lab (fun m _ h => pk_un (fun e => by rw [e] at h; exact h hqn)) hB.2.2.2.2.1) (fun _ h => Or.inl h) hCI
        (fun A hA => Or.inl ⟨A, List.mem_cons_of_mem _ hA, rfl, rfl, rfl⟩)
        hXR2 (by omega) (cp_Re_ms hRe (Or.inr ⟨g, hOC, fun k => by rw [gk] at k; exact absurd k (by decide), rfl⟩))
      rw [gk, gs] at hMn
      refine K _ _ _ _ _ _ _ _ _ _ _ _ _ _ _ _ _ _ _ _ _ _ _ _ _ _ _ _ _ ⟨ins + 1, fc, p0 ++ [z] ++ [g], post, rest, Xs, ?_, ?_⟩
      · unfold cp_mu
        omega
      · rcases hE' with ⟨rfl, rfl, rfl, _⟩ | ⟨Y, Ys, rfl, b1, b2, b3⟩
        · exact Or.inr ⟨hMn, [], [], [], [], rfl, rfl, ⟨0, rfl, rfl⟩, Or.inl ⟨rfl, rfl, rfl⟩⟩
        · exact Or.inl ⟨hMn, (cp_lt_snoc _ _ _).symm, ⟨Y, Ys, rfl, b2⟩, b3⟩
  · -- a resumed one keeps its LEAVE
    subst a3
    have hzlm : zl ∈ p0 ++ [z] ++ (O ++ zl :: p1) := List.mem_append.mpr (Or.inr (List.mem_append.mpr (Or.inr List.mem_cons_self)))
    have hzli := (hB.2.1 zl hzlm).1.1
    rw [a1]
    refine br_f (nI_pos (by omega)) ?_
    refine cp_discard (p0 := p0) (z := z) (O := O) (sp := zl) (rest := p1) hcur hB hI hN ?_
    intro al' hd' tl' pv' nx' src' sz' hp' qd' k1 k2 k3
    refine nm_r t6 ?_
    have epc : zl :: p1 = [zl] ++ p1 := rfl
    rw [epc] at k1 k2 k3
    have k1' := cp_B_mv k1
    rw [← List.append_assoc] at k2 k3
    have hOC : cp_OC (f_cells, a_bodySizes, a_opAt, a_aAt, a_bAt) (X.1 :: rest) zl rest := ⟨X.1, rest, rfl, Or.inr (Or.inr (Or.inl ⟨hpc, a4, a5, a6, a7, rfl⟩))⟩
    refine K _ _ _ _ _ _ _ _ _ _ _ _ _ _ _ _ _ _ _ _ _ _ _ _ _ _ _ _ _ ⟨ins, fc, p0 ++ [z] ++ [zl], p1, rest, Xs, ?_, Or.inr ⟨⟨k1', k2, k3, ?_, ⟨_, _, rfl⟩, fun A hA => hSt A (List.mem_cons_of_mem _ hA), x9, rfl, ?_, ?_, hCW, hg0, ?_, hov⟩, ?_⟩⟩
    · have hl : (O ++ zl :: p1).length = O.length + (p1.length + 1) := by simp
      unfold cp_mu
      omega
    · rw [hf, cp_hx_ne hne]
    · have : (p0 ++ [z] ++ [zl]).length = (p0 ++ [z]).length + 1 := by simp
      omega
    · have : (p0 ++ [z] ++ [zl]).length = (p0 ++ [z]).length + 1 := by simp
      omega
    · exact cp_Re_ms hRe (Or.inr ⟨zl, hOC, fun k => by rw [a4] at k; exact absurd k (by decide), rfl⟩)
    · rw [cp_lt_snoc]
      exact ⟨V, st', W, p', a9, a10, a11, a12⟩
theorem cp_exec {pst : SX → Prop} {cN fN lN ins fc : Nat} {g0 : cp_N} {pre post : List cp_N} {st : List cp_F} {Xs : List cp_X} (hX : cp_Ex cN fN lN ins fc g0 pre post st Xs f_cells f_functions f_limit f_status f_freeCount f_first f_size f_heapSize f_depth f_cur f_inserted f_overflowed a_bodySizes a_opAt a_aAt a_bAt a_baseValue a_settledValue a_outputValue a_changedMark a_cellHead a_cellTail a_kindOf a_subjectOf a_valueOf a_labelOf a_nextOf a_ownerOf a_leaveOf a_pcOf a_snapshot a_cellPrev a_cellNext a_sourceOf a_alive a_queued a_free a_nodeAt a_indexOf a_heap a_frameEnter a_framePc a_frameZone a_frameWait a_frameRegs)
    (K : ∀ (q_freeCount q_first q_heapSize q_depth q_cur q_inserted q_overflowed : Int32) (r_cellHead r_cellTail r_kindOf r_subjectOf r_valueOf r_labelOf r_nextOf r_ownerOf r_leaveOf r_pcOf r_snapshot r_cellPrev r_cellNext r_sourceOf r_alive r_queued r_heap r_frameEnter r_framePc r_frameZone r_frameWait r_frameRegs : Nat → Int32), cp_Sx cN fN lN g0 (cp_mu lN ins post Xs - 1) f_cells f_functions f_limit f_status q_freeCount q_first f_size q_heapSize q_depth q_cur q_inserted q_overflowed a_bodySizes a_opAt a_aAt a_bAt a_baseValue a_settledValue a_outputValue a_changedMark r_cellHead r_cellTail r_kindOf r_subjectOf r_valueOf r_labelOf r_nextOf r_ownerOf r_leaveOf r_pcOf r_snapshot r_cellPrev r_cellNext r_sourceOf r_alive r_queued a_free a_nodeAt a_indexOf r_heap r_frameEnter r_framePc r_frameZone r_frameWait r_frameRegs → pst (f_cells, f_functions, f_limit, f_status, q_freeCount, q_first, f_size, q_heapSize, q_depth, q_cur, q_inserted, q_overflowed, a_bodySizes, a_opAt, a_aAt, a_bAt, a_baseValue, a_settledValue, a_outputValue, a_changedMark, r_cellHead, r_cellTail, r_kindOf, r_subjectOf, r_valueOf, r_labelOf, r_nextOf, r_ownerOf, r_leaveOf, r_pcOf, r_snapshot, r_cellPrev, r_cellNext, r_sourceOf, r_alive, r_queued, a_free, a_nodeAt, a_indexOf, r_heap, r_frameEnter, r_framePc, r_frameZone, r_frameWait, r_frameRegs)) (KO : ∀ (q_freeCount q_first q_heapSize q_depth q_cur q_inserted q_overflowed : Int32) (r_cellHead r_cellTail r_kindOf r_subjectOf r_valueOf r_labelOf r_nextOf r_ownerOf r_leaveOf r_pcOf r_snapshot r_cellPrev r_cellNext r_sourceOf r_alive r_queued r_heap r_frameEnter r_framePc r_frameZone r_frameWait r_frameRegs : Nat → Int32), cp_Ov (f_cells, a_bodySizes, a_opAt, a_aAt, a_bAt) a_baseValue g0 lN → q_overflowed = 1 → pst (f_cells, f_functions, f_limit, f_status, q_freeCount, q_first, f_size, q_heapSize, q_depth, q_cur, q_inserted, q_overflowed, a_bodySizes, a_opAt, a_aAt, a_bAt, a_baseValue, a_settledValue, a_outputValue, a_changedMark, r_cellHead, r_cellTail, r_kindOf, r_subjectOf, r_valueOf, r_labelOf, r_nextOf, r_ownerOf, r_leaveOf, r_pcOf, r_snapshot, r_cellPrev, r_cellNext, r_sourceOf, r_alive, r_queued, a_free, a_nodeAt, a_indexOf, r_heap, r_frameEnter, r_framePc, r_frameZone, r_frameWait, r_frameRegs)) :
    wpX_executeStep pst (f_cells, f_functions, f_limit, f_status, f_freeCount, f_first, f_size, f_heapSize, f_depth, f_cur, f_inserted, f_overflowed, a_bodySizes, a_opAt, a_aAt, a_bAt, a_baseValue, a_settledValue, a_outputValue, a_changedMark, a_cellHead, a_cellTail, a_kindOf, a_subjectOf, a_valueOf, a_labelOf, a_nextOf, a_ownerOf, a_leaveOf, a_pcOf, a_snapshot, a_cellPrev, a_cellNext, a_sourceOf, a_alive, a_queued, a_free, a_nodeAt, a_indexOf, a_heap, a_frameEnter, a_framePc, a_frameZone, a_frameWait, a_frameRegs) := by
  obtain ⟨hM, hcur, ⟨X, Xs, rfl, hxw⟩, hE⟩ := hX
  obtain ⟨p0, z, rfl⟩ := hM.2.2.2.2.1
  have hst : ∃ rest, st = X.1 :: rest := by obtain ⟨rest, e, _⟩ := hE; exact ⟨rest, e⟩
  obtain ⟨rest, rfl⟩ := hst
  rw [cp_lt_snoc] at hcur
  obtain ⟨t1, t2, t3, t4, t5, t6, t7, t8, t9, t10, t11, t12⟩ := cp_top hM
  have hM0 := hM
  obtain ⟨hB, hI, hN, hf, hne, hSt, hXR, hdp, hdl, hil, hCW, hg0, hRe, hov⟩ := hM
  obtain ⟨x1, x2, x3, x4, x5, x6, x7, x8, x9⟩ := hXR
  have ed : (nI Xs.length).toNatClampNeg = Xs.length := nI_clamp (by omega)
  have ind : vp_in (nI Xs.length) 256 := vp_in_nI (by omega) (by decide)
  obtain ⟨hbz, hbz16, _⟩ := hCW _ t3
  have hbz' : a_bodySizes X.1.2.1 = nI (cp_bz (f_cells, a_bodySizes, a_opAt, a_aAt, a_bAt) X.1.2.1) := hbz
  refine nm_r t6 (And.intro ind ?_)
  rw [ed, x1, nI_clamp (n := X.1.1) (by omega)]
  refine And.intro (vp_in_nI t2 (by decide)) (nm_r t11 (And.intro ind (nm_r x2 (And.intro (vp_in_nI (by omega) (by decide)) ?_))))
  rw [nI_clamp (n := X.1.2.1) (by omega), hbz']
  by_cases hpc : X.1.2.2.2.1 < cp_bz (f_cells, a_bodySizes, a_opAt, a_aAt, a_bAt) X.1.2.1
  · have e16 : nI X.1.2.1 * 16 + nI X.1.2.2.2.1 = nI (X.1.2.1 * 16 + X.1.2.2.2.1) := by rw [← nI_add, ← pk_mul]; rfl
    refine br_t (nI_lt hpc (by omega)) (nm_r e16 (And.intro ind ?_))
    rw [nI_1, nI_clamp (n := X.1.2.1 * 16 + X.1.2.2.2.1) (by omega)]
    refine nm_e (And.intro (vp_in_nI (by omega) (by decide)) (nm_r (e' := cp_op (f_cells, a_bodySizes, a_opAt, a_aAt, a_bAt) X.1) rfl (br_c (fun h8 => ?_) (fun h8 => br_c (fun h9 => ?_) (fun h9 => br_c (fun h10 => ?_) (fun h10 => ?_))))))
    · exact cp_doRead hM0 hcur hxw hE hpc h8 K KO
    · exact cp_doWrite hM0 hcur hxw hE hpc h9 K KO
    · exact cp_doCall hM0 hcur hxw hE hpc h10 K KO
    · exact cp_compute hM0 hcur hxw hE hpc h8 h9 h10 K
  · refine br_f (nI_nlt (by omega) (by omega)) ?_
    exact cp_close hM0 hcur hxw hE (by omega) K KO
end
end
section
/-! ===== reexecute: a node with a new value ===== -/
def cp_wv (g : cp_N) (v : Int32) : cp_N := (g.1, g.2.1, g.2.2.1, v, g.2.2.2.2)
theorem cp_wv_A (c : Nat) (g : cp_N) (v : Int32) : cp_A c (cp_wv g v) = cp_A c g := rfl
theorem cp_D_val {h t : Int32} {pv nx : Nat → Int32} {a b : List cp_N} {g : cp_N} {v : Int32} (hD : cp_D h t pv nx (a ++ g :: b)) : cp_D h t pv nx (a ++ cp_wv g v :: b) := by
  obtain ⟨h1, h2, h3⟩ := hD
  refine ⟨?_, ?_, ?_⟩
  · rw [h1]; cases a <;> rfl
  · rw [h2, cp_lt_app, cp_lt_app]; rfl
  · have := (cp_G_app _ _ _ _).mp h3
    exact (cp_G_app _ _ _ _).mpr this
theorem cp_So_val {src : Nat → Int32} {w : Int32} {a b : List cp_N} {g : cp_N} {v : Int32} (hS : cp_So src w (a ++ g :: b)) : cp_So src w (a ++ cp_wv g v :: b) := by
  have := (cp_So_app _ _ _).mp hS
  exact (cp_So_app _ _ _).mpr this
theorem cp_SQ_val {qd : Nat → Int32} {s : Int32} {a b : List cp_N} {g : cp_N} {v : Int32} (hU : cp_U (a ++ g :: b)) (hk : cp_k g = 1) (hv : v = cp_cv s a) (hQ : cp_SQ qd s (a ++ g :: b)) : cp_SQ (upd qd (cp_id g) 0) s (a ++ cp_wv g v :: b) := by
  obtain ⟨h1, _, h3⟩ := (cp_SQ_app _ _ _).mp hQ
  obtain ⟨u1, u2, u3⟩ := cp_U_app.mp hU
  obtain ⟨u4, u5⟩ := cp_U_cons.mp u2
  have hn2 : ¬ cp_k g = 2 := by rw [hk]; decide
  rw [if_neg hn2] at h3
  refine (cp_SQ_app _ _ _).mpr ⟨?_, fun _ h => absurd hv h, ?_⟩
  · exact cp_SQ_mono _ _ (fun x hx h => by rw [pk_un (u3 x hx g List.mem_cons_self)]; exact h) h1
  · show cp_SQ _ (if cp_k g = 2 then v else cp_cv s a) b
    rw [if_neg hn2]
    exact cp_SQ_mono _ _ (fun x hx h => by rw [pk_un (fun e => u4 x hx e.symm)]; exact h) h3
theorem cp_CI_val {hd tl pv nx src qd base : Nat → Int32} {P Q : List cp_N} {g : cp_N} {v : Int32} (hU : cp_U (P ++ g :: Q)) (hk : cp_k g = 1) (hv : v = cp_cv (base (cp_s g)) (cp_fl (cp_s g) P)) (hI : cp_CI hd tl pv nx src qd base (P ++ g :: Q)) : cp_CI hd tl pv nx src (upd qd (cp_id g) 0) base (P ++ cp_wv g v :: Q) := by
  intro c hc
  obtain ⟨h1, h2, h3⟩ := hI c hc
  have hUf := cp_U_fl (c := c) hU
  by_cases e : c = cp_s g
  · have hA : cp_A c g = true := cp_A_iff.mpr ⟨Or.inl hk, e.symm⟩
    rw [cp_fl_app, cp_fl_y hA] at h1 h2 h3 hUf
    rw [cp_fl_app, cp_fl_y (show cp_A c (cp_wv g v) = true from hA)]
    exact ⟨cp_D_val h1, cp_So_val h2, cp_SQ_val hUf hk (by rw [hv, e]) h3⟩
  · have hA : cp_A c g = false := cp_A_no (fun z => e z.2.symm)
    rw [cp_fl_app, cp_fl_n hA] at h1 h2 h3
    rw [cp_fl_app, cp_fl_n (show cp_A c (cp_wv g v) = false from hA)]
    refine ⟨h1, h2, cp_SQ_mono _ _ (fun x hx h => ?_) h3⟩
    rw [pk_un (fun e2 => ?_)]
    · exact h
    · have hx' : x ∈ cp_fl c (P ++ g :: Q) := by rw [cp_fl_app, cp_fl_n hA]; exact hx
      have := cp_U_inj hU (cp_fl_mem hx').1 (List.mem_append.mpr (Or.inr List.mem_cons_self)) e2
      subst this
      exact e (cp_fl_mem hx').2.2.symm
theorem cp_Nx_val {nx : Nat → Int32} {P Q : List cp_N} {g : cp_N} {v d : Int32} (h : cp_Nx nx (P ++ g :: Q) d) : cp_Nx nx (P ++ cp_wv g v :: Q) d := by
  have := (cp_Nx_app _ _ _).mp h
  exact (cp_Nx_app _ _ _).mpr this
theorem cp_wv_mem {P Q : List cp_N} {g x : cp_N} {v : Int32} (h : x ∈ P ++ cp_wv g v :: Q) : x = cp_wv g v ∨ x ∈ P ++ g :: Q := by
  rcases List.mem_append.mp h with h | h
  · exact Or.inr (List.mem_append.mpr (Or.inl h))
  · rcases List.mem_cons.mp h with h | h
    · exact Or.inl h
    · exact Or.inr (List.mem_append.mpr (Or.inr (List.mem_cons_of_mem _ h)))
theorem cp_wv_pw {r : cp_N → cp_N → Prop} {P Q : List cp_N} {g : cp_N} {v : Int32} (h1 : ∀ x, r x g → r x (cp_wv g v)) (h2 : ∀ x, r g x → r (cp_wv g v) x) (h : (P ++ g :: Q).Pairwise r) : (P ++ cp_wv g v :: Q).Pairwise r := by
  obtain ⟨a, b, c⟩ := List.pairwise_append.mp h
  obtain ⟨d, e⟩ := List.pairwise_cons.mp b
  refine List.pairwise_append.mpr ⟨a, List.pairwise_cons.mpr ⟨fun x hx => h2 x (d x hx), e⟩, fun x hx y hy => ?_⟩
  rcases List.mem_cons.mp hy with rfl | hy
  · exact h1 x (c x hx g List.mem_cons_self)
  · exact c x hx y (List.mem_cons_of_mem _ hy)
section
variable {f_cells f_functions f_limit f_status f_freeCount f_first f_size f_heapSize f_depth f_cur f_inserted f_overflowed : Int32} {a_bodySizes a_opAt a_aAt a_bAt a_baseValue a_settledValue a_outputValue a_changedMark a_cellHead a_cellTail a_kindOf a_subjectOf a_valueOf a_labelOf a_nextOf a_ownerOf a_leaveOf a_pcOf a_snapshot a_cellPrev a_cellNext a_sourceOf a_alive a_queued a_free a_nodeAt a_indexOf a_heap a_frameEnter a_framePc a_frameZone a_frameWait a_frameRegs : Nat → Int32}
theorem cp_B_val {cN fN lN ins fc : Nat} {pre Q : List cp_N} {g : cp_N} {v : Int32} {W1 : List cp_N} (hk : cp_k g = 1) (hB : cp_B cN fN lN ins fc pre (W1 ++ g :: Q) f_cells f_functions f_limit f_inserted f_freeCount f_heapSize a_kindOf a_subjectOf a_valueOf a_labelOf a_ownerOf a_leaveOf a_pcOf a_snapshot a_alive a_queued a_free a_heap) : cp_B cN fN lN ins fc pre (W1 ++ cp_wv g v :: Q) f_cells f_functions f_limit f_inserted f_freeCount f_heapSize a_kindOf a_subjectOf (upd a_valueOf (cp_id g) v) a_labelOf a_ownerOf a_leaveOf a_pcOf a_snapshot a_alive a_queued a_free a_heap := by
  obtain ⟨n0, hR, hL, ⟨hc1, hc2, hc3⟩, hH, hqk, hA, ⟨hF1, hF2⟩, hLq⟩ := hB
  have hgm : g ∈ pre ++ (W1 ++ g :: Q) := List.mem_append.mpr (Or.inr (List.mem_append.mpr (Or.inr List.mem_cons_self)))
  have hU := cp_Lb_U hL
  have hm : ∀ x ∈ pre ++ (W1 ++ cp_wv g v :: Q), x = cp_wv g v ∨ (x ∈ pre ++ (W1 ++ g :: Q) ∧ cp_id x ≠ cp_id g) := by
    intro x hx
    rw [← List.append_assoc] at hx hU
    obtain ⟨u1, u2, u3⟩ := cp_U_app.mp hU
    obtain ⟨u4, u5⟩ := cp_U_cons.mp u2
    rcases List.mem_append.mp hx with h | h
    · refine Or.inr ⟨?_, u3 x h g List.mem_cons_self⟩
      rw [← List.append_assoc]; exact List.mem_append.mpr (Or.inl h)
    · rcases List.mem_cons.mp h with h | h
      · exact Or.inl h
      · refine Or.inr ⟨?_, fun e => u4 x h e.symm⟩
        rw [← List.append_assoc]; exact List.mem_append.mpr (Or.inr (List.mem_cons_of_mem _ h))
  have hm2 : ∀ x ∈ pre ++ (W1 ++ g :: Q), x = g ∨ x ∈ pre ++ (W1 ++ cp_wv g v :: Q) := by
    intro x hx
    rw [← List.append_assoc] at hx
    rcases List.mem_append.mp hx with h | h
    · refine Or.inr ?_
      rw [← List.append_assoc]; exact List.mem_append.mpr (Or.inl h)
    · rcases List.mem_cons.mp h with h | h
      · exact Or.inl h
      · refine Or.inr ?_
        rw [← List.append_assoc]; exact List.mem_append.mpr (Or.inr (List.mem_cons_of_mem _ h))
  have hgm' : cp_wv g v ∈ pre ++ (W1 ++ cp_wv g v :: Q) := List.mem_append.mpr (Or.inr (List.mem_append.mpr (Or.inr List.mem_cons_self)))
  refine ⟨?_, fun x hx => ?_, ?_, ⟨fun x hx => ?_, fun x hx => ?_, hc3⟩, hH, fun x hx h => ?_, fun n hn => ?_, ⟨fun i hi => ?_, hF2⟩, hLq⟩
  · have : (pre ++ (W1 ++ cp_wv g v :: Q)).length = (pre ++ (W1 ++ g :: Q)).length := by simp
    rw [this]; exact n0
  · rcases hm x hx with rfl | ⟨hx, hne⟩
    · obtain ⟨⟨y1, y2, y3, y4, y5⟩, y6⟩ := hR g hgm
      exact ⟨⟨y1, y2, y3, pk_us, y5⟩, y6⟩
    · obtain ⟨⟨y1, y2, y3, y4, y5⟩, y6⟩ := hR x hx
      exact ⟨⟨y1, y2, y3, by rw [pk_un hne]; exact y4, y5⟩, y6⟩
  · rw [← List.append_assoc] at hL ⊢
    exact cp_wv_pw (fun x h => h) (fun x h => h) hL
  · rcases hm x hx with rfl | ⟨hx, _⟩
    · exact hc1 g hgm
    · exact hc1 x hx
  · rcases cp_wv_mem hx with rfl | hx
    · exact hc2 g (List.mem_append.mpr (Or.inr List.mem_cons_self))
    · exact hc2 x hx
  · rcases hm x hx with rfl | ⟨hx, _⟩
    · exact hk
    · exact hqk x hx h
  · rw [hA n hn]
    constructor
    · rintro ⟨x, hx, e⟩
      rcases hm2 x hx with rfl | hx
      · exact ⟨_, hgm', e⟩
      · exact ⟨x, hx, e⟩
    · rintro ⟨x, hx, e⟩
      rcases hm x hx with rfl | ⟨hx, _⟩
      · exact ⟨g, hgm, e⟩
      · exact ⟨x, hx, e⟩
  · obtain ⟨n, hn, e, hq, hno⟩ := hF1 i hi
    refine ⟨n, hn, e, hq, fun x hx => ?_⟩
    rcases hm x hx with rfl | ⟨hx, _⟩
    · exact hno g hgm
    · exact hno x hx
theorem cp_reex {pst : SX → Prop} {n e pc zl d f ra s : Nat} {v : Int32} (hn : n < 256) (he : e < 256) (ho : a_ownerOf n = nI e) (hp : a_pcOf n = nI pc) (hpc : pc < 16) (hl : a_leaveOf e = nI zl) (hdp : f_depth = nI d) (hd : d < 256) (hs : a_subjectOf e = nI f) (hf : f < 6)
    (ha : a_aAt (f * 16 + pc) = nI ra) (hra : ra < 4) (hok : cp_ok (a_sourceOf n)) (hsn : a_subjectOf n = nI s) (hs16 : s < 16) (hgv : cp_gv a_valueOf (a_sourceOf n) (a_baseValue s) = v)
    (K : ∀ frg', cp_rg frg' d = upd (cp_rg a_snapshot n) ra v → (∀ i, i ≠ d → cp_rg frg' i = cp_rg a_frameRegs i) →
      pst (f_cells, f_functions, f_limit, f_status, f_freeCount, f_first, f_size, f_heapSize, nI (d + 1), nI n, f_inserted, f_overflowed, a_bodySizes, a_opAt, a_aAt, a_bAt, a_baseValue, a_settledValue, a_outputValue, a_changedMark, a_cellHead, a_cellTail, a_kindOf, a_subjectOf, upd a_valueOf n v, a_labelOf, a_nextOf, a_ownerOf, a_leaveOf, a_pcOf, a_snapshot, a_cellPrev, a_cellNext, a_sourceOf, a_alive, a_queued, a_free, a_nodeAt, a_indexOf, a_heap, upd a_frameEnter d (nI e), upd a_framePc d (nI (pc + 1)), upd a_frameZone d (nI zl), upd a_frameWait d (-1), frg')) :
    wpX_reexecute pst (f_cells, f_functions, f_limit, f_status, f_freeCount, f_first, f_size, f_heapSize, f_depth, f_cur, f_inserted, f_overflowed, a_bodySizes, a_opAt, a_aAt, a_bAt, a_baseValue, a_settledValue, a_outputValue, a_changedMark, a_cellHead, a_cellTail, a_kindOf, a_subjectOf, a_valueOf, a_labelOf, a_nextOf, a_ownerOf, a_leaveOf, a_pcOf, a_snapshot, a_cellPrev, a_cellNext, a_sourceOf, a_alive, a_queued, a_free, a_nodeAt, a_indexOf, a_heap, a_frameEnter, a_framePc, a_frameZone, a_frameWait, a_frameRegs) (nI n) := by
  have en : (nI n).toNatClampNeg = n := nI_clamp (by omega)
  have ein : vp_in (nI n) 256 := vp_in_nI hn (by decide)
  have ee : (nI e).toNatClampNeg = e := nI_clamp (by omega)
  have ine : vp_in (nI e) 256 := vp_in_nI he (by decide)
  refine And.intro ein ?_
  rw [en]
  refine nm_r ho (And.intro ein (nm_r hp (And.intro ine ?_)))
  rw [ee, hl, nI_1]
  refine cp_pushFrame hdp hd ?_
  intro frg0 hr1 hr2
  refine br_t (nI_pos' (by omega)) ⟨5, ?_⟩
  refine cp_reex_loop4 hd hn ?_ 4 0 5 _ rfl (by omega) (fun q hq => by omega) (fun _ _ => rfl)
  intro frg1 hr3 hr4
  refine cp_governing (c := s) hn hok (Or.inr ⟨hsn, hs16⟩) ?_
  rw [hgv, en, ee, hs]
  have e16 : nI f * 16 + nI pc = nI (f * 16 + pc) := by rw [← nI_add, ← pk_mul]; rfl
  refine And.intro ein (nm_e (And.intro ine (nm_r e16 ?_)))
  have e4 : nI d * 4 + nI ra = nI (d * 4 + ra) := by rw [← nI_add, ← pk_mul]; rfl
  rw [nI_clamp (n := f * 16 + pc) (by omega), ha, e4, nI_clamp (n := d * 4 + ra) (by omega)]
  refine And.intro (vp_in_nI (by omega) (by decide)) (And.intro (vp_in_nI (by omega) (by decide)) (nm_e ?_))
  refine K _ ?_ (fun i hi => ?_)
  · rw [cp_rg_upd hra, hr3]
  · rw [cp_rg_ne hra hi, hr4 i hi, hr2 i hi]
end
end
section
/-! ===== repairNext ===== -/
theorem cp_St_of {base : Nat → Int32} {L P Q : List cp_N} {g : cp_N} (e : L = P ++ g :: Q) (hk : cp_k g = 1) (hv : cp_v g ≠ cp_sto base P (cp_s g)) : cp_St base L g := by
  refine ⟨by rw [e]; exact List.mem_append.mpr (Or.inr List.mem_cons_self), hk, cp_fl (cp_s g) P, cp_fl (cp_s g) Q, ?_, hv⟩
  rw [e, cp_fl_app, cp_fl_y (cp_A_iff.mpr ⟨Or.inl hk, rfl⟩)]
theorem cp_St_at {base : Nat → Int32} {L P Q : List cp_N} {g : cp_N} (hU : cp_U L) (h : cp_St base L g) (e : L = P ++ g :: Q) : cp_v g ≠ cp_sto base P (cp_s g) := by
  obtain ⟨_, hk, a, b, e2, hv⟩ := h
  have hUf := cp_U_fl (c := cp_s g) hU
  rw [e2] at hUf
  rw [e, cp_fl_app, cp_fl_y (cp_A_iff.mpr ⟨Or.inl hk, rfl⟩)] at e2
  have := cp_split_uniq hUf e2.symm
  rw [this] at hv
  exact hv
theorem cp_OR_lastV {C : cp_C} {n : Nat} {V : List cp_F} {W : List cp_N} (h : cp_OR C n V W) (hV : W ≠ []) : ∃ O z, W = O ++ [z] ∧ cp_k z = 3 := by
  rcases List.eq_nil_or_concat V with rfl | ⟨V', A, e⟩
  · exact absurd (cp_OR_nil h) hV
  · rw [List.concat_eq_append] at e
    subst e
    obtain ⟨W1, W2, n1, n2, rfl, _, k2, _⟩ := cp_OR_split n V' [A] W h
    obtain ⟨O, z, rfl, k3, _⟩ := cp_OR_last n2 n2 A W2 (Nat.le_refl _) k2
    exact ⟨W1 ++ O, z, by simp, k3⟩
/-- the end: everything is final -/
def cp_Fn (cN fN lN : Nat) (g0 : cp_N) (f_cells f_functions f_limit f_status f_freeCount f_first f_size f_heapSize f_depth f_cur f_inserted f_overflowed : Int32) (a_bodySizes a_opAt a_aAt a_bAt a_baseValue a_settledValue a_outputValue a_changedMark a_cellHead a_cellTail a_kindOf a_subjectOf a_valueOf a_labelOf a_nextOf a_ownerOf a_leaveOf a_pcOf a_snapshot a_cellPrev a_cellNext a_sourceOf a_alive a_queued a_free a_nodeAt a_indexOf a_heap a_frameEnter a_framePc a_frameZone a_frameWait a_frameRegs : Nat → Int32) : Prop := ∃ ins fc L, cp_M cN fN lN ins fc g0 L [] [] [] f_cells f_functions f_limit f_status f_freeCount f_first f_size f_heapSize f_depth f_cur f_inserted f_overflowed a_bodySizes a_opAt a_aAt a_bAt a_baseValue a_settledValue a_outputValue a_changedMark a_cellHead a_cellTail a_kindOf a_subjectOf a_valueOf a_labelOf a_nextOf a_ownerOf a_leaveOf a_pcOf a_snapshot a_cellPrev a_cellNext a_sourceOf a_alive a_queued a_free a_nodeAt a_indexOf a_heap a_frameEnter a_framePc a_frameZone a_frameWait a_frameRegs ∧ f_heapSize = 0
theorem cp_lt_pos {d : Int32} {l : List cp_N} (h : ∀ g ∈ l, cp_id g < 256) (hd : ¬ d = -1) : ¬ cp_lt d l = -1 := by
  induction l generalizing d with
  | nil => exact hd
  | cons g t ih =>
    refine ih (d := nI (cp_id g)) (fun x hx => h x (List.mem_cons_of_mem _ hx)) (fun e => ?_)
    have h1 : ¬ nI (cp_id g) < 0 := nI_pos (by have := h g List.mem_cons_self; omega)
    rw [e] at h1
    exact h1 cp_m1neg
section
variable {f_cells f_functions f_limit f_status f_freeCount f_first f_size f_heapSize f_depth f_cur f_inserted f_overflowed : Int32} {a_bodySizes a_opAt a_aAt a_bAt a_baseValue a_settledValue a_outputValue a_changedMark a_cellHead a_cellTail a_kindOf a_subjectOf a_valueOf a_labelOf a_nextOf a_ownerOf a_leaveOf a_pcOf a_snapshot a_cellPrev a_cellNext a_sourceOf a_alive a_queued a_free a_nodeAt a_indexOf a_heap a_frameEnter a_framePc a_frameZone a_frameWait a_frameRegs : Nat → Int32}
theorem cp_repair27 {pst : Int32 → SX → Prop} {cN fN lN ins fc nr : Nat} {g0 : cp_N} {pre W p' : List cp_N} {V st' : List cp_F} {Xs : List cp_X} {bd : Int32} (hM : cp_M cN fN lN ins fc g0 pre (W ++ p') (V ++ st') Xs f_cells f_functions f_limit f_status f_freeCount f_first f_size f_heapSize f_depth f_cur f_inserted f_overflowed a_bodySizes a_opAt a_aAt a_bAt a_baseValue a_settledValue a_outputValue a_changedMark a_cellHead a_cellTail a_kindOf a_subjectOf a_valueOf a_labelOf a_nextOf a_ownerOf a_leaveOf a_pcOf a_snapshot a_cellPrev a_cellNext a_sourceOf a_alive a_queued a_free a_nodeAt a_indexOf a_heap a_frameEnter a_framePc a_frameZone a_frameWait a_frameRegs) (hRp : cp_OR (f_cells, a_bodySizes, a_opAt, a_aAt, a_bAt) nr V W)
    (hX : (Xs = [] ∧ st' = [] ∧ p' = []) ∨ (∃ Y Ys, Xs = Y :: Ys ∧ cp_xw Y = cp_lt (cp_lt (-1) pre) W ∧ cp_E (f_cells, a_bodySizes, a_opAt, a_aAt, a_bAt) Xs st' p')) (hbd1 : ∀ g ∈ W, cp_k g = 1 → (a_labelOf (cp_id g)).toInt < bd.toInt) (hbd2 : ∀ g ∈ p', bd.toInt ≤ (a_labelOf (cp_id g)).toInt) (hbd3 : Xs = [] → bd = 1073741824)
    (K : ∀ (q_freeCount q_first q_heapSize q_depth q_cur q_inserted q_overflowed : Int32) (r_cellHead r_cellTail r_kindOf r_subjectOf r_valueOf r_labelOf r_nextOf r_ownerOf r_leaveOf r_pcOf r_snapshot r_cellPrev r_cellNext r_sourceOf r_alive r_queued r_heap r_frameEnter r_framePc r_frameZone r_frameWait r_frameRegs : Nat → Int32), cp_Sx cN fN lN g0 (cp_mu lN ins (W ++ p') Xs - 1) f_cells f_functions f_limit f_status q_freeCount q_first f_size q_heapSize q_depth q_cur q_inserted q_overflowed a_bodySizes a_opAt a_aAt a_bAt a_baseValue a_settledValue a_outputValue a_changedMark r_cellHead r_cellTail r_kindOf r_subjectOf r_valueOf r_labelOf r_nextOf r_ownerOf r_leaveOf r_pcOf r_snapshot r_cellPrev r_cellNext r_sourceOf r_alive r_queued a_free a_nodeAt a_indexOf r_heap r_frameEnter r_framePc r_frameZone r_frameWait r_frameRegs → pst 0 (f_cells, f_functions, f_limit, f_status, q_freeCount, q_first, f_size, q_heapSize, q_depth, q_cur, q_inserted, q_overflowed, a_bodySizes, a_opAt, a_aAt, a_bAt, a_baseValue, a_settledValue, a_outputValue, a_changedMark, r_cellHead, r_cellTail, r_kindOf, r_subjectOf, r_valueOf, r_labelOf, r_nextOf, r_ownerOf, r_leaveOf, r_pcOf, r_snapshot, r_cellPrev, r_cellNext, r_sourceOf, r_alive, r_queued, a_free, a_nodeAt, a_indexOf, r_heap, r_frameEnter, r_framePc, r_frameZone, r_frameWait, r_frameRegs)) (KD : ∀ (q_freeCount q_first q_heapSize q_depth q_cur q_inserted q_overflowed : Int32) (r_cellHead r_cellTail r_kindOf r_subjectOf r_valueOf r_labelOf r_nextOf r_ownerOf r_leaveOf r_pcOf r_snapshot r_cellPrev r_cellNext r_sourceOf r_alive r_queued r_heap r_frameEnter r_framePc r_frameZone r_frameWait r_frameRegs : Nat → Int32), cp_Fn cN fN lN g0 f_cells f_functions f_limit f_status q_freeCount q_first f_size q_heapSize q_depth q_cur q_inserted q_overflowed a_bodySizes a_opAt a_aAt a_bAt a_baseValue a_settledValue a_outputValue a_changedMark r_cellHead r_cellTail r_kindOf r_subjectOf r_valueOf r_labelOf r_nextOf r_ownerOf r_leaveOf r_pcOf r_snapshot r_cellPrev r_cellNext r_sourceOf r_alive r_queued a_free a_nodeAt a_indexOf r_heap r_frameEnter r_framePc r_frameZone r_frameWait r_frameRegs → pst 1 (f_cells, f_functions, f_limit, f_status, q_freeCount, q_first, f_size, q_heapSize, q_depth, q_cur, q_inserted, q_overflowed, a_bodySizes, a_opAt, a_aAt, a_bAt, a_baseValue, a_settledValue, a_outputValue, a_changedMark, r_cellHead, r_cellTail, r_kindOf, r_subjectOf, r_valueOf, r_labelOf, r_nextOf, r_ownerOf, r_leaveOf, r_pcOf, r_snapshot, r_cellPrev, r_cellNext, r_sourceOf, r_alive, r_queued, a_free, a_nodeAt, a_indexOf, r_heap, r_frameEnter, r_framePc, r_frameZone, r_frameWait, r_frameRegs)) :
    wX_repairNext_27 pst bd f_cells f_functions f_limit f_status f_freeCount f_first f_size f_heapSize f_depth f_cur f_inserted f_overflowed a_bodySizes a_opAt a_aAt a_bAt a_baseValue a_settledValue a_outputValue a_changedMark a_cellHead a_cellTail a_kindOf a_subjectOf a_valueOf a_labelOf a_nextOf a_ownerOf a_leaveOf a_pcOf a_snapshot a_cellPrev a_cellNext a_sourceOf a_alive a_queued a_free a_nodeAt a_indexOf a_heap a_frameEnter a_framePc a_frameZone a_frameWait a_frameRegs := by
  have hM0 := hM
  obtain ⟨hB, hI, hN, hf, hne, hSt, hXR, hdp, hdl, hil, hCW, hg0, hRe, hov⟩ := hM
  have hU := cp_Lb_U hB.2.2.1
  have hlen : pre.length + (W.length + p'.length) ≤ 120 + ins := by
    have h := hB.1.2.2.2.2.2.2.2.2.2.2.2.2
    simp only [List.length_append] at h
    exact h
  have hins : ins ≤ 120 := by have := hB.1.2.2.2.2.2.2.1; have := hB.1.2.2.2.2.2.2.2.2.1; omega
  have hXl : Xs.length ≤ 240 := by omega
  have hcon : ∀ W1 W2, W = W1 ++ W2 → (∀ g ∈ W1, ¬ cp_St a_baseValue (pre ++ (W ++ p')) g) → ∀ a g b, W1 = a ++ g :: b → cp_k g = 1 → cp_v g = cp_sto a_baseValue (pre ++ a) (cp_s g) := by
    intro W1 W2 e hns a g b e2 k
    by_cases hv : cp_v g = cp_sto a_baseValue (pre ++ a) (cp_s g)
    · exact hv
    · refine absurd ?_ (hns g (by rw [e2]; exact List.mem_append.mpr (Or.inr List.mem_cons_self)))
      exact cp_St_of (P := pre ++ a) (Q := b ++ W2 ++ p') (by rw [e, e2]; simp) k hv
  have hPV : ∀ B ∈ V, cp_SP a_free fc a_kindOf a_subjectOf a_valueOf fN B.1 B.2.1 B.2.2.1 := fun B hBm => hSt B (List.mem_append.mpr (Or.inl hBm))
  have hPW : ∀ g ∈ W, cp_k g = 0 → cp_SP a_free fc a_kindOf a_subjectOf a_valueOf fN (cp_id g) (cp_s g) (cp_v g) := fun g hg k => cp_SP_of hB (List.mem_append.mpr (Or.inr (List.mem_append.mpr (Or.inl hg)))) k
  unfold wX_repairNext_27
  refine cp_nextStale hB hI ?_ ?_
  · -- nothing is stale there
    intro sz' hp' qd' hB' hI' hst hsz
    refine br_t cp_m1neg ?_
    have hns : ∀ g ∈ W, ¬ cp_St a_baseValue (pre ++ (W ++ p')) g := by
      intro g hg h
      have h1 := hst g h
      have h2 := hbd1 g hg h.2.1
      omega
    obtain ⟨V1, m, hrs, hP1, hend⟩ := cp_pass (P := cp_SP a_free fc a_kindOf a_subjectOf a_valueOf fN) nr V W [] pre st' (by rw [List.append_nil]; exact hRp) (hcon W [] (List.append_nil W).symm hns) hPV hPW
    have hV1 : V1 = [] := by
      rcases hend with ⟨_, h⟩ | ⟨r, W2', V', n', h, _⟩
      · exact h
      · cases h
    subst hV1
    have hRe' := cp_Re_rs hRe hrs
    have hBm := cp_B_mv hB'
    rw [← List.append_assoc] at hI' hN
    have hne' : ∃ p0 z, pre ++ W = p0 ++ [z] := by
      rcases cp_nc (pre ++ W) with h | h
      · obtain ⟨p0, z, e⟩ := hne
        rw [e] at h; simp at h
      · exact h
    have hf' : f_first = cp_hx (pre ++ W) (-1) := by rw [hf, cp_hx_ne hne]
    have hlW : (pre ++ W).length = pre.length + W.length := List.length_append
    have hSt' : ∀ A ∈ st', cp_SP a_free fc a_kindOf a_subjectOf a_valueOf fN A.1 A.2.1 A.2.2.1 := fun A hA => hSt A (List.mem_append.mpr (Or.inr hA))
    rcases hX with ⟨rfl, rfl, rfl⟩ | ⟨Y, Ys, rfl, hxw, hE⟩
    · refine br_t (by rw [hdp]; rfl) ?_
      refine KD _ _ _ _ _ _ _ _ _ _ _ _ _ _ _ _ _ _ _ _ _ _ _ _ _ _ _ _ _ ⟨ins, fc, pre ++ W, ⟨hBm, hI', hN, hf', hne', fun A hA => (by cases hA), trivial, hdp, Nat.zero_le _, by omega, hCW, hg0, hRe', hov⟩, hsz (hbd3 rfl)⟩
    · have hl1 : (Y :: Ys).length = Ys.length + 1 := rfl
      have ed1 : f_depth - 1 = nI Ys.length := by rw [hdp, hl1]; exact nI_pred _
      have edc : (nI Ys.length).toNatClampNeg = Ys.length := nI_clamp (by omega)
      refine br_f (by rw [hdp]; exact nI_ne0 (by omega) (by omega)) ?_
      rw [ed1, edc]
      obtain ⟨x1, x2, x3, x4, x5, x6, x7, x8, x9⟩ := hXR
      have ind : vp_in (nI Ys.length) 256 := vp_in_nI (by omega) (by decide)
      have hxw' : cp_xw Y = cp_lt (-1) (pre ++ W) := by rw [hxw, cp_lt_app]
      refine And.intro ind (nm_r (x5.trans hxw') (And.intro ind (nm_e ?_)))
      refine K _ _ _ _ _ _ _ _ _ _ _ _ _ _ _ _ _ _ _ _ _ _ _ _ _ _ _ _ _ ⟨ins, fc, pre ++ W, p', st', (Y.1, cp_xz Y, -1, cp_xl Y) :: Ys, ?_, Or.inl ⟨⟨hBm, hI', hN, hf', hne', hSt', ?_, hdp, ?_, by omega, hCW, hg0, hRe', hov⟩, rfl, ⟨_, Ys, rfl, rfl⟩, ?_⟩⟩
      · have hwn : ¬ cp_xw Y = -1 := by
          obtain ⟨p0, z, e⟩ := hne'
          rw [hxw', e, cp_lt_snoc]
          intro h
          have h1 : ¬ nI (cp_id z) < 0 := nI_pos (by have := (hBm.2.1 z (by rw [e]; simp)).1.1; omega)
          rw [h] at h1
          exact h1 cp_m1neg
        have h1 : cp_mx (Y :: Ys) = 2 * (17 - min Y.1.2.2.2.1 16) + (if cp_xw Y = -1 then 0 else 1) + cp_mx Ys := rfl
        have h2 : cp_mx ((Y.1, cp_xz Y, -1, cp_xl Y) :: Ys) = 2 * (17 - min Y.1.2.2.2.1 16) + 0 + cp_mx Ys := rfl
        rw [if_neg hwn] at h1
        have h3 : (W ++ p').length = W.length + p'.length := List.length_append
        unfold cp_mu
        omega
      · exact ⟨x1, x2, x3, x4, pk_us, x6, x7, x8, cp_XR_fr Ys (fun i hi => ⟨rfl, rfl, rfl, pk_un (by omega), rfl⟩) (fun _ _ => rfl) x9⟩
      · have : ((Y.1, cp_xz Y, -1, cp_xl Y) :: Ys).length = Ys.length + 1 := rfl
        omega
      · have hst : ∃ rest, st' = Y.1 :: rest := by obtain ⟨rest, e, _⟩ := hE; exact ⟨rest, e⟩
        obtain ⟨rest, e⟩ := hst
        subst e
        exact cp_E_top hE rfl rfl rfl rfl rfl
  · -- a stale read
    intro g sz' hp' qd0 hB' hI' hst hlt hmin
    obtain ⟨hgm, hgk, _⟩ := id hst
    have hgR := hB.2.1 g hgm
    have hgi := hgR.1.1
    refine br_f (nI_pos (by omega)) ?_
    -- it lies in W
    have hgW : g ∈ W := by
      rcases List.mem_append.mp hgm with h | h
      · obtain ⟨a, b, e⟩ := List.append_of_mem h
        have h1 := cp_Re_con hg0 hRe a g b e hgk
        have h2 := cp_St_at hU hst (P := a) (Q := b ++ (W ++ p')) (by rw [e]; simp)
        exact absurd h1 h2
      · rcases List.mem_append.mp h with h | h
        · exact h
        · have := hbd2 g h; omega
    obtain ⟨W1, W2, eW⟩ := List.append_of_mem hgW
    subst eW
    have hL : pre ++ (W1 ++ g :: W2 ++ p') = (pre ++ W1) ++ g :: (W2 ++ p') := by simp
    have hLs := hB.2.2.1
    rw [hL] at hLs
    have hns : ∀ x ∈ W1, ¬ cp_St a_baseValue (pre ++ (W1 ++ g :: W2 ++ p')) x := by
      intro x hx h
      have h1 := hmin x h
      have h2 := (List.pairwise_append.mp hLs).2.2 x (List.mem_append.mpr (Or.inr hx)) g List.mem_cons_self
      omega
    obtain ⟨V1, m, hrs, hP1, hend⟩ := cp_pass (P := cp_SP a_free fc a_kindOf a_subjectOf a_valueOf fN) nr V W1 (g :: W2) pre st' hRp (hcon W1 (g :: W2) rfl hns) hPV (fun x hx => hPW x (List.mem_append.mpr (Or.inl hx)))
    rcases hend with ⟨h, _⟩ | ⟨r, W2', V', n', e, hOC, hOR⟩
    · cases h
    obtain ⟨rfl, rfl⟩ := List.cons.inj e
    obtain ⟨A, R, rfl, hOC⟩ := hOC
    have hrd : A.2.2.2.1 < cp_bz (f_cells, a_bodySizes, a_opAt, a_aAt, a_bAt) A.2.1 ∧ cp_op (f_cells, a_bodySizes, a_opAt, a_aAt, a_bAt) A = 8 ∧ cp_s g = cp_adr f_cells (cp_vb (f_cells, a_bodySizes, a_opAt, a_aAt, a_bAt) A) ∧ cp_o g = A.1 ∧ cp_pc g = A.2.2.2.1 ∧ cp_sn g = A.2.2.2.2 ∧ V' = cp_ps A (A.2.2.2.1 + 1) (upd A.2.2.2.2 (cp_ra (f_cells, a_bodySizes, a_opAt, a_aAt, a_bAt) A) (cp_v g)) :: R := by
      rcases hOC with ⟨h1, h2, h3, h4, h5, h6, h7, h8⟩ | ⟨h1, h2, h3, _⟩ | ⟨h1, h2, _⟩ | ⟨h1, h2, h3, _⟩
      · exact ⟨h1, h2, h4, h5, h6, h7, h8⟩
      · rw [hgk] at h3; exact absurd h3 (by decide)
      · rw [hgk] at h2; exact absurd h2 (by decide)
      · rw [hgk] at h3; exact absurd h3 (by decide)
    clear hOC
    obtain ⟨r1, r2, r3, r4, r5, r6, rfl⟩ := hrd
    obtain ⟨O, zl, d, eW2, zk, zo, hEn⟩ := cp_Wt_re (W1 := W1) (r := g) hX hOR
    subst eW2
    have hPA := hP1 A List.mem_cons_self
    obtain ⟨s1, s2, s3, s4, s5, s6⟩ := hPA
    have hfN := hB.1.2.2.2.2.1
    obtain ⟨i1, i2, i3, i4, i5, i6, i7, i8, i9⟩ := cp_ins hCW s4 hfN r1
    obtain ⟨ra4, era⟩ := i7 (by rw [r2]; decide)
    have hzlm : zl ∈ pre ++ (W1 ++ g :: (O ++ zl :: d) ++ p') := by simp
    have hlvA : a_leaveOf A.1 = nI (cp_id zl) := by
      have := (hB.2.1 zl hzlm).2.2.2.2.2.2.1 zk
      rw [zo] at this; exact this
    have hzli := (hB.2.1 zl hzlm).1.1
    have hgow : a_ownerOf (cp_id g) = nI A.1 := by rw [hgR.2.1, r4]
    have hgpc := (hgR.2.2.2.2.2.2.2 hgk).1
    rw [r5] at hgpc
    have hgsn := (hgR.2.2.2.2.2.2.2 hgk).2
    rw [r6] at hgsn
    have hs16 := hgR.1.2.2.2.2 (Or.inl hgk)
    -- the governing value
    have hIg := (hI' (cp_s g) hs16).2.1
    have efl : cp_fl (cp_s g) (pre ++ (W1 ++ g :: (O ++ zl :: d) ++ p')) = cp_fl (cp_s g) (pre ++ W1) ++ g :: cp_fl (cp_s g) (O ++ zl :: d ++ p') := by rw [hL, cp_fl_app, cp_fl_y (cp_A_iff.mpr ⟨Or.inl hgk, rfl⟩)]
    rw [efl] at hIg
    have hsrc := cp_So_at hIg
    have hRa : ∀ x ∈ cp_fl (cp_s g) (pre ++ W1), cp_id x < 256 ∧ a_valueOf (cp_id x) = cp_v x := fun x hx => by
      have hx' : x ∈ pre ++ (W1 ++ g :: (O ++ zl :: d) ++ p') := by rw [hL]; exact List.mem_append.mpr (Or.inl (cp_fl_mem hx).1)
      have := (hB.2.1 x hx').1
      exact ⟨this.1, this.2.2.2.1⟩
    refine cp_reex (d := Xs.length) (e := A.1) (pc := A.2.2.2.1) (zl := cp_id zl) (f := A.2.1) (ra := cp_ra (f_cells, a_bodySizes, a_opAt, a_aAt, a_bAt) A) (s := cp_s g) (v := cp_sto a_baseValue (pre ++ W1) (cp_s g)) hgi s1 hgow hgpc i1 hlvA hdp (by omega) s2 (by omega) era ra4 ?_ hgR.1.2.2.1 hs16 ?_ ?_
    · rw [hsrc]; exact cp_ok_lw _ _ (Or.inl rfl) (fun x hx => (hRa x hx).1)
    · rw [hsrc, cp_gv_cv hRa]; rfl
    intro frg' hr1 hr2
    generalize hv : cp_sto a_baseValue (pre ++ W1) (cp_s g) = v at hr1 ⊢
    -- the new list
    have hL2 : ∀ x, pre ++ (W1 ++ x :: (O ++ zl :: d) ++ p') = (pre ++ W1) ++ x :: (O ++ zl :: (d ++ p')) := fun x => by simp
    have hL3 : pre ++ W1 ++ [cp_wv g v] ++ (O ++ zl :: (d ++ p')) = (pre ++ W1) ++ cp_wv g v :: (O ++ zl :: (d ++ p')) := cp_mid _ _ _
    have hBv : cp_B cN fN lN ins fc pre (W1 ++ g :: (O ++ zl :: (d ++ p'))) f_cells f_functions f_limit f_inserted f_freeCount sz' a_kindOf a_subjectOf a_valueOf a_labelOf a_ownerOf a_leaveOf a_pcOf a_snapshot a_alive (upd qd0 (cp_id g) 0) a_free hp' := by
      have : W1 ++ g :: (O ++ zl :: d) ++ p' = W1 ++ g :: (O ++ zl :: (d ++ p')) := by simp
      rw [this] at hB'; exact hB'
    have hBv2 := cp_B_val (v := v) hgk hBv
    have hBv3 : cp_B cN fN lN ins fc (pre ++ W1 ++ [cp_wv g v]) (O ++ zl :: (d ++ p')) f_cells f_functions f_limit f_inserted f_freeCount sz' a_kindOf a_subjectOf (upd a_valueOf (cp_id g) v) a_labelOf a_ownerOf a_leaveOf a_pcOf a_snapshot a_alive (upd qd0 (cp_id g) 0) a_free hp' := by
      have e2 : W1 ++ cp_wv g v :: (O ++ zl :: (d ++ p')) = (W1 ++ [cp_wv g v]) ++ (O ++ zl :: (d ++ p')) := by simp
      rw [e2] at hBv2
      have := cp_B_mv hBv2
      rw [← List.append_assoc] at this
      exact this
    rw [hL2] at hI' hN hU
    have hI2 := cp_CI_val (v := v) hU hgk (by rw [← hv]; rfl) hI'
    have hN2 := cp_Nx_val (v := v) hN
    rw [← hL3] at hI2 hN2
    have hne2 : ∃ q z, pre ++ W1 ++ [cp_wv g v] = q ++ [z] := ⟨_, _, rfl⟩
    have hlen2 : (pre ++ W1 ++ [cp_wv g v]).length = pre.length + W1.length + 1 := by simp; omega
    have hOC2 : cp_OC (f_cells, a_bodySizes, a_opAt, a_aAt, a_bAt) (A :: R ++ st') (cp_wv g v) (cp_ps A (A.2.2.2.1 + 1) (upd A.2.2.2.2 (cp_ra (f_cells, a_bodySizes, a_opAt, a_aAt, a_bAt) A) v) :: (R ++ st')) :=
      ⟨A, R ++ st', rfl, Or.inl ⟨r1, r2, hgk, r3, r4, r5, r6, rfl⟩⟩
    have hRe2 := cp_Re_ms (cp_Re_rs hRe hrs) (Or.inr ⟨cp_wv g v, hOC2, fun _ => hv.symm, rfl⟩)
    have hzn : ¬ nI (cp_id zl) = -1 := fun h => by
      have h1 : ¬ nI (cp_id zl) < 0 := nI_pos (by omega)
      rw [h] at h1
      exact h1 cp_m1neg
    have hkg : a_kindOf (cp_id g) = 1 := hgR.1.2.1.trans hgk
    have hSPv : ∀ e f x, cp_SP a_free fc a_kindOf a_subjectOf a_valueOf fN e f x → cp_SP a_free fc a_kindOf a_subjectOf (upd a_valueOf (cp_id g) v) fN e f x := by
      intro e f x h
      obtain ⟨q1, q2, q3, q4, q5, q6⟩ := h
      refine ⟨q1, q2, ?_, q4, q5, q6⟩
      rw [pk_un (fun e2 => ?_)]
      · exact q3
      · rw [e2, hkg] at q6; exact absurd q6 (by decide)
    refine K _ _ _ _ _ _ _ _ _ _ _ _ _ _ _ _ _ _ _ _ _ _ _ _ _ _ _ _ _ ⟨ins, fc, pre ++ W1 ++ [cp_wv g v], O ++ zl :: (d ++ p'), cp_ps A (A.2.2.2.1 + 1) (upd A.2.2.2.2 (cp_ra (f_cells, a_bodySizes, a_opAt, a_aAt, a_bAt) A) v) :: (R ++ st'), (cp_ps A (A.2.2.2.1 + 1) (upd A.2.2.2.2 (cp_ra (f_cells, a_bodySizes, a_opAt, a_aAt, a_bAt) A) v), nI (cp_id zl), -1, nI (cp_id zl)) :: Xs, ?_, Or.inl ⟨⟨hBv3, hI2, hN2, ?_, hne2, ?_, ?_, rfl, ?_, ?_, hCW, hg0, hRe2, hov⟩, ?_, ⟨_, Xs, rfl, rfl⟩, ?_⟩⟩
    · have h2 : cp_mx ((cp_ps A (A.2.2.2.1 + 1) (upd A.2.2.2.2 (cp_ra (f_cells, a_bodySizes, a_opAt, a_aAt, a_bAt) A) v), nI (cp_id zl), -1, nI (cp_id zl)) :: Xs) = 2 * (17 - min (A.2.2.2.1 + 1) 16) + 0 + cp_mx Xs := rfl
      have h3 : (W1 ++ g :: (O ++ zl :: d) ++ p').length = W1.length + ((O ++ zl :: (d ++ p')).length + 1) := by simp
      unfold cp_mu
      omega
    · rw [hf, List.append_assoc, cp_hx_ne hne]
    · intro B hBm
      rcases List.mem_cons.mp hBm with rfl | hBm
      · exact hSPv _ _ _ ⟨s1, s2, s3, s4, s5, s6⟩
      · rcases List.mem_append.mp hBm with h | h
        · exact hSPv _ _ _ (hP1 B (List.mem_cons_of_mem _ h))
        · exact hSPv _ _ _ (hSt B (List.mem_append.mpr (Or.inr h)))
    · refine ⟨pk_us, pk_us, by show A.2.2.2.1 + 1 ≤ 63; omega, pk_us, pk_us, ?_, hlvA, fun h => absurd h hzn, cp_XR_fr Xs (fun i hi => ⟨pk_un (by omega), pk_un (by omega), pk_un (by omega), pk_un (by omega), hr2 i (by omega)⟩) (fun _ _ => rfl) hXR⟩
      rw [hr1, hgsn]; rfl
    · have : ((cp_ps A (A.2.2.2.1 + 1) (upd A.2.2.2.2 (cp_ra (f_cells, a_bodySizes, a_opAt, a_aAt, a_bAt) A) v), nI (cp_id zl), -1, nI (cp_id zl)) :: Xs).length = Xs.length + 1 := rfl
      omega
    · omega
    · rw [cp_lt_snoc]; rfl
    · exact hEn _ rfl rfl rfl rfl rfl
theorem cp_repair {pst : Int32 → SX → Prop} {cN fN lN ins fc : Nat} {g0 : cp_N} {pre post : List cp_N} {st : List cp_F} {Xs : List cp_X} (hW : cp_Wa cN fN lN ins fc g0 pre post st Xs f_cells f_functions f_limit f_status f_freeCount f_first f_size f_heapSize f_depth f_cur f_inserted f_overflowed a_bodySizes a_opAt a_aAt a_bAt a_baseValue a_settledValue a_outputValue a_changedMark a_cellHead a_cellTail a_kindOf a_subjectOf a_valueOf a_labelOf a_nextOf a_ownerOf a_leaveOf a_pcOf a_snapshot a_cellPrev a_cellNext a_sourceOf a_alive a_queued a_free a_nodeAt a_indexOf a_heap a_frameEnter a_framePc a_frameZone a_frameWait a_frameRegs)
    (K : ∀ (q_freeCount q_first q_heapSize q_depth q_cur q_inserted q_overflowed : Int32) (r_cellHead r_cellTail r_kindOf r_subjectOf r_valueOf r_labelOf r_nextOf r_ownerOf r_leaveOf r_pcOf r_snapshot r_cellPrev r_cellNext r_sourceOf r_alive r_queued r_heap r_frameEnter r_framePc r_frameZone r_frameWait r_frameRegs : Nat → Int32), cp_Sx cN fN lN g0 (cp_mu lN ins post Xs - 1) f_cells f_functions f_limit f_status q_freeCount q_first f_size q_heapSize q_depth q_cur q_inserted q_overflowed a_bodySizes a_opAt a_aAt a_bAt a_baseValue a_settledValue a_outputValue a_changedMark r_cellHead r_cellTail r_kindOf r_subjectOf r_valueOf r_labelOf r_nextOf r_ownerOf r_leaveOf r_pcOf r_snapshot r_cellPrev r_cellNext r_sourceOf r_alive r_queued a_free a_nodeAt a_indexOf r_heap r_frameEnter r_framePc r_frameZone r_frameWait r_frameRegs → pst 0 (f_cells, f_functions, f_limit, f_status, q_freeCount, q_first, f_size, q_heapSize, q_depth, q_cur, q_inserted, q_overflowed, a_bodySizes, a_opAt, a_aAt, a_bAt, a_baseValue, a_settledValue, a_outputValue, a_changedMark, r_cellHead, r_cellTail, r_kindOf, r_subjectOf, r_valueOf, r_labelOf, r_nextOf, r_ownerOf, r_leaveOf, r_pcOf, r_snapshot, r_cellPrev, r_cellNext, r_sourceOf, r_alive, r_queued, a_free, a_nodeAt, a_indexOf, r_heap, r_frameEnter, r_framePc, r_frameZone, r_frameWait, r_frameRegs)) (KD : ∀ (q_freeCount q_first q_heapSize q_depth q_cur q_inserted q_overflowed : Int32) (r_cellHead r_cellTail r_kindOf r_subjectOf r_valueOf r_labelOf r_nextOf r_ownerOf r_leaveOf r_pcOf r_snapshot r_cellPrev r_cellNext r_sourceOf r_alive r_queued r_heap r_frameEnter r_framePc r_frameZone r_frameWait r_frameRegs : Nat → Int32), cp_Fn cN fN lN g0 f_cells f_functions f_limit f_status q_freeCount q_first f_size q_heapSize q_depth q_cur q_inserted q_overflowed a_bodySizes a_opAt a_aAt a_bAt a_baseValue a_settledValue a_outputValue a_changedMark r_cellHead r_cellTail r_kindOf r_subjectOf r_valueOf r_labelOf r_nextOf r_ownerOf r_leaveOf r_pcOf r_snapshot r_cellPrev r_cellNext r_sourceOf r_alive r_queued a_free a_nodeAt a_indexOf r_heap r_frameEnter r_framePc r_frameZone r_frameWait r_frameRegs → pst 1 (f_cells, f_functions, f_limit, f_status, q_freeCount, q_first, f_size, q_heapSize, q_depth, q_cur, q_inserted, q_overflowed, a_bodySizes, a_opAt, a_aAt, a_bAt, a_baseValue, a_settledValue, a_outputValue, a_changedMark, r_cellHead, r_cellTail, r_kindOf, r_subjectOf, r_valueOf, r_labelOf, r_nextOf, r_ownerOf, r_leaveOf, r_pcOf, r_snapshot, r_cellPrev, r_cellNext, r_sourceOf, r_alive, r_queued, a_free, a_nodeAt, a_indexOf, r_heap, r_frameEnter, r_framePc, r_frameZone, r_frameWait, r_frameRegs)) :
    wpX_repairNext pst (f_cells, f_functions, f_limit, f_status, f_freeCount, f_first, f_size, f_heapSize, f_depth, f_cur, f_inserted, f_overflowed, a_bodySizes, a_opAt, a_aAt, a_bAt, a_baseValue, a_settledValue, a_outputValue, a_changedMark, a_cellHead, a_cellTail, a_kindOf, a_subjectOf, a_valueOf, a_labelOf, a_nextOf, a_ownerOf, a_leaveOf, a_pcOf, a_snapshot, a_cellPrev, a_cellNext, a_sourceOf, a_alive, a_queued, a_free, a_nodeAt, a_indexOf, a_heap, a_frameEnter, a_framePc, a_frameZone, a_frameWait, a_frameRegs) := by
  obtain ⟨hM, V, st', W, p', rfl, rfl, ⟨nr, hRp⟩, hX⟩ := hW
  have hM0 := hM
  obtain ⟨hB, hI, hN, hf, hne, hSt, hXR, hdp, hdl, hil, hCW, hg0, hRe, hov⟩ := hM
  have hlen : pre.length + (W.length + p'.length) ≤ 120 + ins := by
    have h := hB.1.2.2.2.2.2.2.2.2.2.2.2.2
    simp only [List.length_append] at h
    exact h
  have hins : ins ≤ 120 := by have := hB.1.2.2.2.2.2.2.1; have := hB.1.2.2.2.2.2.2.2.2.1; omega
  rcases id hX with ⟨rfl, rfl, rfl⟩ | ⟨Y, Ys, rfl, hxw, hE⟩
  · refine br_t (by rw [hdp]; decide) ?_
    refine cp_repair27 hM0 hRp hX (fun g hg _ => ?_) (fun g hg => by cases hg) (fun _ => rfl) K KD
    have := hB.2.2.2.1.1 g (List.mem_append.mpr (Or.inr (List.mem_append.mpr (Or.inl hg))))
    rw [show (1073741824 : Int32).toInt = 1073741824 by decide]
    omega
  · have hl1 : (Y :: Ys).length = Ys.length + 1 := rfl
    have ed1 : f_depth - 1 = nI Ys.length := by rw [hdp, hl1]; exact nI_pred _
    have edc : (nI Ys.length).toNatClampNeg = Ys.length := nI_clamp (by omega)
    obtain ⟨x1, x2, x3, x4, x5, x6, x7, x8, x9⟩ := id hXR
    have hxw' : cp_xw Y = cp_lt (-1) (pre ++ W) := by rw [hxw, cp_lt_app]
    have hne' : ∃ p0 z, pre ++ W = p0 ++ [z] := by
      rcases cp_nc (pre ++ W) with h | h
      · obtain ⟨p0, z, e⟩ := hne
        rw [e] at h; simp at h
      · exact h
    obtain ⟨p0, z, ez⟩ := hne'
    have hzm : z ∈ pre ++ W := by rw [ez]; simp
    have hzi : cp_id z < 256 := by
      refine (hB.2.1 z ?_).1.1
      rw [← List.append_assoc]; exact List.mem_append.mpr (Or.inl hzm)
    rw [ez, cp_lt_snoc] at hxw'
    refine br_f (by rw [hdp]; exact nI_nle (by omega) (by omega)) ?_
    rw [ed1, edc, x5, hxw', nI_clamp (n := cp_id z) (by omega)]
    refine And.intro (vp_in_nI (by omega) (by decide)) (And.intro (vp_in_nI hzi (by decide)) (nm_e ?_))
    have hLs := hB.2.2.1
    rw [← List.append_assoc] at hLs
    obtain ⟨l1, l2, l3⟩ := List.pairwise_append.mp hLs
    refine cp_repair27 hM0 hRp hX (fun g hg hk => ?_) (fun g hg => ?_) (fun h => by cases h) K KD
    · -- the last one is a LEAVE
      obtain ⟨O, zl, e, zk⟩ := cp_OR_lastV hRp (fun h => by rw [h] at hg; cases hg)
      subst e
      rw [← List.append_assoc] at ez
      have := List.append_inj' ez rfl
      obtain rfl : zl = z := (List.cons.inj this.2).1
      rcases List.mem_append.mp hg with h | h
      · rw [← List.append_assoc] at l1
        exact (List.pairwise_append.mp l1).2.2 g (List.mem_append.mpr (Or.inr h)) zl List.mem_cons_self
      · rcases List.mem_cons.mp h with rfl | h
        · rw [hk] at zk; exact absurd zk (by decide)
        · cases h
    · exact Int.le_of_lt (l3 z hzm g hg)
end
end
section
/-! ===== drive ===== -/
section
variable {f_cells f_functions f_limit f_status f_freeCount f_first f_size f_heapSize f_depth f_cur f_inserted f_overflowed : Int32} {a_bodySizes a_opAt a_aAt a_bAt a_baseValue a_settledValue a_outputValue a_changedMark a_cellHead a_cellTail a_kindOf a_subjectOf a_valueOf a_labelOf a_nextOf a_ownerOf a_leaveOf a_pcOf a_snapshot a_cellPrev a_cellNext a_sourceOf a_alive a_queued a_free a_nodeAt a_indexOf a_heap a_frameEnter a_framePc a_frameZone a_frameWait a_frameRegs : Nat → Int32}
theorem cp_Sx_mono {cN fN lN a b : Nat} {g0 : cp_N} (h : cp_Sx cN fN lN g0 a f_cells f_functions f_limit f_status f_freeCount f_first f_size f_heapSize f_depth f_cur f_inserted f_overflowed a_bodySizes a_opAt a_aAt a_bAt a_baseValue a_settledValue a_outputValue a_changedMark a_cellHead a_cellTail a_kindOf a_subjectOf a_valueOf a_labelOf a_nextOf a_ownerOf a_leaveOf a_pcOf a_snapshot a_cellPrev a_cellNext a_sourceOf a_alive a_queued a_free a_nodeAt a_indexOf a_heap a_frameEnter a_framePc a_frameZone a_frameWait a_frameRegs) (hab : a ≤ b) : cp_Sx cN fN lN g0 b f_cells f_functions f_limit f_status f_freeCount f_first f_size f_heapSize f_depth f_cur f_inserted f_overflowed a_bodySizes a_opAt a_aAt a_bAt a_baseValue a_settledValue a_outputValue a_changedMark a_cellHead a_cellTail a_kindOf a_subjectOf a_valueOf a_labelOf a_nextOf a_ownerOf a_leaveOf a_pcOf a_snapshot a_cellPrev a_cellNext a_sourceOf a_alive a_queued a_free a_nodeAt a_indexOf a_heap a_frameEnter a_framePc a_frameZone a_frameWait a_frameRegs := by
  obtain ⟨ins, fc, pre, post, st, Xs, hm, hs⟩ := h
  exact ⟨ins, fc, pre, post, st, Xs, by omega, hs⟩
theorem cp_drive_loop {pst : SX → Prop} {cN fN lN : Nat} {g0 : cp_N} (KO : ∀ (f_freeCount f_first f_heapSize f_depth f_cur f_inserted f_overflowed : Int32) (a_cellHead a_cellTail a_kindOf a_subjectOf a_valueOf a_labelOf a_nextOf a_ownerOf a_leaveOf a_pcOf a_snapshot a_cellPrev a_cellNext a_sourceOf a_alive a_queued a_heap a_frameEnter a_framePc a_frameZone a_frameWait a_frameRegs : Nat → Int32), cp_Ov (f_cells, a_bodySizes, a_opAt, a_aAt, a_bAt) a_baseValue g0 lN → f_overflowed = 1 → pst (f_cells, f_functions, f_limit, f_status, f_freeCount, f_first, f_size, f_heapSize, f_depth, f_cur, f_inserted, f_overflowed, a_bodySizes, a_opAt, a_aAt, a_bAt, a_baseValue, a_settledValue, a_outputValue, a_changedMark, a_cellHead, a_cellTail, a_kindOf, a_subjectOf, a_valueOf, a_labelOf, a_nextOf, a_ownerOf, a_leaveOf, a_pcOf, a_snapshot, a_cellPrev, a_cellNext, a_sourceOf, a_alive, a_queued, a_free, a_nodeAt, a_indexOf, a_heap, a_frameEnter, a_framePc, a_frameZone, a_frameWait, a_frameRegs)) (KD : ∀ (f_freeCount f_first f_heapSize f_depth f_cur f_inserted f_overflowed : Int32) (a_cellHead a_cellTail a_kindOf a_subjectOf a_valueOf a_labelOf a_nextOf a_ownerOf a_leaveOf a_pcOf a_snapshot a_cellPrev a_cellNext a_sourceOf a_alive a_queued a_heap a_frameEnter a_framePc a_frameZone a_frameWait a_frameRegs : Nat → Int32), cp_Fn cN fN lN g0 f_cells f_functions f_limit f_status f_freeCount f_first f_size f_heapSize f_depth f_cur f_inserted f_overflowed a_bodySizes a_opAt a_aAt a_bAt a_baseValue a_settledValue a_outputValue a_changedMark a_cellHead a_cellTail a_kindOf a_subjectOf a_valueOf a_labelOf a_nextOf a_ownerOf a_leaveOf a_pcOf a_snapshot a_cellPrev a_cellNext a_sourceOf a_alive a_queued a_free a_nodeAt a_indexOf a_heap a_frameEnter a_framePc a_frameZone a_frameWait a_frameRegs → pst (f_cells, f_functions, f_limit, f_status, f_freeCount, f_first, f_size, f_heapSize, f_depth, f_cur, f_inserted, f_overflowed, a_bodySizes, a_opAt, a_aAt, a_bAt, a_baseValue, a_settledValue, a_outputValue, a_changedMark, a_cellHead, a_cellTail, a_kindOf, a_subjectOf, a_valueOf, a_labelOf, a_nextOf, a_ownerOf, a_leaveOf, a_pcOf, a_snapshot, a_cellPrev, a_cellNext, a_sourceOf, a_alive, a_queued, a_free, a_nodeAt, a_indexOf, a_heap, a_frameEnter, a_framePc, a_frameZone, a_frameWait, a_frameRegs)) :
    ∀ (mu step m : Nat) (f_freeCount f_first f_heapSize f_depth f_cur f_inserted f_overflowed : Int32) (a_cellHead a_cellTail a_kindOf a_subjectOf a_valueOf a_labelOf a_nextOf a_ownerOf a_leaveOf a_pcOf a_snapshot a_cellPrev a_cellNext a_sourceOf a_alive a_queued a_heap a_frameEnter a_framePc a_frameZone a_frameWait a_frameRegs : Nat → Int32), mu + 1 < m → mu + step ≤ 99990 → cp_Sx cN fN lN g0 mu f_cells f_functions f_limit f_status f_freeCount f_first f_size f_heapSize f_depth f_cur f_inserted f_overflowed a_bodySizes a_opAt a_aAt a_bAt a_baseValue a_settledValue a_outputValue a_changedMark a_cellHead a_cellTail a_kindOf a_subjectOf a_valueOf a_labelOf a_nextOf a_ownerOf a_leaveOf a_pcOf a_snapshot a_cellPrev a_cellNext a_sourceOf a_alive a_queued a_free a_nodeAt a_indexOf a_heap a_frameEnter a_framePc a_frameZone a_frameWait a_frameRegs → wX_drive_4 pst m 0 (nI step) f_cells f_functions f_limit f_status f_freeCount f_first f_size f_heapSize f_depth f_cur f_inserted f_overflowed a_bodySizes a_opAt a_aAt a_bAt a_baseValue a_settledValue a_outputValue a_changedMark a_cellHead a_cellTail a_kindOf a_subjectOf a_valueOf a_labelOf a_nextOf a_ownerOf a_leaveOf a_pcOf a_snapshot a_cellPrev a_cellNext a_sourceOf a_alive a_queued a_free a_nodeAt a_indexOf a_heap a_frameEnter a_framePc a_frameZone a_frameWait a_frameRegs := by
  intro mu
  induction mu with
  | zero =>
    intro step m f_freeCount f_first f_heapSize f_depth f_cur f_inserted f_overflowed a_cellHead a_cellTail a_kindOf a_subjectOf a_valueOf a_labelOf a_nextOf a_ownerOf a_leaveOf a_pcOf a_snapshot a_cellPrev a_cellNext a_sourceOf a_alive a_queued a_heap a_frameEnter a_framePc a_frameZone a_frameWait a_frameRegs hm hs hx
    obtain ⟨ins, fc, pre, post, st, Xs, hmu, _⟩ := hx
    unfold cp_mu at hmu
    omega
  | succ mu ih =>
    intro step m f_freeCount f_first f_heapSize f_depth f_cur f_inserted f_overflowed a_cellHead a_cellTail a_kindOf a_subjectOf a_valueOf a_labelOf a_nextOf a_ownerOf a_leaveOf a_pcOf a_snapshot a_cellPrev a_cellNext a_sourceOf a_alive a_queued a_heap a_frameEnter a_framePc a_frameZone a_frameWait a_frameRegs hm hs hx
    obtain ⟨m, rfl⟩ : ∃ m', m = m' + 1 + 1 := ⟨m - 2, by omega⟩
    obtain ⟨ins, fc, pre, post, st, Xs, hmu, hx⟩ := hx
    have c1 : ¬ (100000 : Int32) ≤ nI step := nI_ge (b := 100000) (by omega) (by decide)
    have c2 : ¬ (100000 : Int32) ≤ nI (step + 1) := nI_ge (b := 100000) (by omega) (by decide)
    -- what follows a step
    have K : ∀ (q_freeCount q_first q_heapSize q_depth q_cur q_inserted q_overflowed : Int32) (r_cellHead r_cellTail r_kindOf r_subjectOf r_valueOf r_labelOf r_nextOf r_ownerOf r_leaveOf r_pcOf r_snapshot r_cellPrev r_cellNext r_sourceOf r_alive r_queued r_heap r_frameEnter r_framePc r_frameZone r_frameWait r_frameRegs : Nat → Int32), cp_Sx cN fN lN g0 (cp_mu lN ins post Xs - 1) f_cells f_functions f_limit f_status q_freeCount q_first f_size q_heapSize q_depth q_cur q_inserted q_overflowed a_bodySizes a_opAt a_aAt a_bAt a_baseValue a_settledValue a_outputValue a_changedMark r_cellHead r_cellTail r_kindOf r_subjectOf r_valueOf r_labelOf r_nextOf r_ownerOf r_leaveOf r_pcOf r_snapshot r_cellPrev r_cellNext r_sourceOf r_alive r_queued a_free a_nodeAt a_indexOf r_heap r_frameEnter r_framePc r_frameZone r_frameWait r_frameRegs → wX_drive_4 pst (m + 1) 0 (nI (step + 1)) f_cells f_functions f_limit f_status q_freeCount q_first f_size q_heapSize q_depth q_cur q_inserted q_overflowed a_bodySizes a_opAt a_aAt a_bAt a_baseValue a_settledValue a_outputValue a_changedMark r_cellHead r_cellTail r_kindOf r_subjectOf r_valueOf r_labelOf r_nextOf r_ownerOf r_leaveOf r_pcOf r_snapshot r_cellPrev r_cellNext r_sourceOf r_alive r_queued a_free a_nodeAt a_indexOf r_heap r_frameEnter r_framePc r_frameZone r_frameWait r_frameRegs := by
      intro q_freeCount q_first q_heapSize q_depth q_cur q_inserted q_overflowed r_cellHead r_cellTail r_kindOf r_subjectOf r_valueOf r_labelOf r_nextOf r_ownerOf r_leaveOf r_pcOf r_snapshot r_cellPrev r_cellNext r_sourceOf r_alive r_queued r_heap r_frameEnter r_framePc r_frameZone r_frameWait r_frameRegs hq
      exact ih (step + 1) (m + 1) q_freeCount q_first q_heapSize q_depth q_cur q_inserted q_overflowed r_cellHead r_cellTail r_kindOf r_subjectOf r_valueOf r_labelOf r_nextOf r_ownerOf r_leaveOf r_pcOf r_snapshot r_cellPrev r_cellNext r_sourceOf r_alive r_queued r_heap r_frameEnter r_framePc r_frameZone r_frameWait r_frameRegs (by omega) (by omega) (cp_Sx_mono hq (by omega))
    have KO' : ∀ (q_freeCount q_first q_heapSize q_depth q_cur q_inserted q_overflowed : Int32) (r_cellHead r_cellTail r_kindOf r_subjectOf r_valueOf r_labelOf r_nextOf r_ownerOf r_leaveOf r_pcOf r_snapshot r_cellPrev r_cellNext r_sourceOf r_alive r_queued r_heap r_frameEnter r_framePc r_frameZone r_frameWait r_frameRegs : Nat → Int32), cp_Ov (f_cells, a_bodySizes, a_opAt, a_aAt, a_bAt) a_baseValue g0 lN → q_overflowed = 1 → wX_drive_4 pst (m + 1) 0 (nI (step + 1)) f_cells f_functions f_limit f_status q_freeCount q_first f_size q_heapSize q_depth q_cur q_inserted q_overflowed a_bodySizes a_opAt a_aAt a_bAt a_baseValue a_settledValue a_outputValue a_changedMark r_cellHead r_cellTail r_kindOf r_subjectOf r_valueOf r_labelOf r_nextOf r_ownerOf r_leaveOf r_pcOf r_snapshot r_cellPrev r_cellNext r_sourceOf r_alive r_queued a_free a_nodeAt a_indexOf r_heap r_frameEnter r_framePc r_frameZone r_frameWait r_frameRegs := by
      intro q_freeCount q_first q_heapSize q_depth q_cur q_inserted q_overflowed r_cellHead r_cellTail r_kindOf r_subjectOf r_valueOf r_labelOf r_nextOf r_ownerOf r_leaveOf r_pcOf r_snapshot r_cellPrev r_cellNext r_sourceOf r_alive r_queued r_heap r_frameEnter r_framePc r_frameZone r_frameWait r_frameRegs hq e
      exact br_f c2 (br_t rfl (br_f (by rw [e]; decide) (br_t rfl (KO q_freeCount q_first q_heapSize q_depth q_cur q_inserted 1 r_cellHead r_cellTail r_kindOf r_subjectOf r_valueOf r_labelOf r_nextOf r_ownerOf r_leaveOf r_pcOf r_snapshot r_cellPrev r_cellNext r_sourceOf r_alive r_queued r_heap r_frameEnter r_framePc r_frameZone r_frameWait r_frameRegs hq rfl))))
    have KD' : ∀ (q_freeCount q_first q_heapSize q_depth q_cur q_inserted q_overflowed : Int32) (r_cellHead r_cellTail r_kindOf r_subjectOf r_valueOf r_labelOf r_nextOf r_ownerOf r_leaveOf r_pcOf r_snapshot r_cellPrev r_cellNext r_sourceOf r_alive r_queued r_heap r_frameEnter r_framePc r_frameZone r_frameWait r_frameRegs : Nat → Int32), cp_Fn cN fN lN g0 f_cells f_functions f_limit f_status q_freeCount q_first f_size q_heapSize q_depth q_cur q_inserted q_overflowed a_bodySizes a_opAt a_aAt a_bAt a_baseValue a_settledValue a_outputValue a_changedMark r_cellHead r_cellTail r_kindOf r_subjectOf r_valueOf r_labelOf r_nextOf r_ownerOf r_leaveOf r_pcOf r_snapshot r_cellPrev r_cellNext r_sourceOf r_alive r_queued a_free a_nodeAt a_indexOf r_heap r_frameEnter r_framePc r_frameZone r_frameWait r_frameRegs → wX_drive_4 pst (m + 1) 1 (nI (step + 1)) f_cells f_functions f_limit f_status q_freeCount q_first f_size q_heapSize q_depth q_cur q_inserted q_overflowed a_bodySizes a_opAt a_aAt a_bAt a_baseValue a_settledValue a_outputValue a_changedMark r_cellHead r_cellTail r_kindOf r_subjectOf r_valueOf r_labelOf r_nextOf r_ownerOf r_leaveOf r_pcOf r_snapshot r_cellPrev r_cellNext r_sourceOf r_alive r_queued a_free a_nodeAt a_indexOf r_heap r_frameEnter r_framePc r_frameZone r_frameWait r_frameRegs := by
      intro q_freeCount q_first q_heapSize q_depth q_cur q_inserted q_overflowed r_cellHead r_cellTail r_kindOf r_subjectOf r_valueOf r_labelOf r_nextOf r_ownerOf r_leaveOf r_pcOf r_snapshot r_cellPrev r_cellNext r_sourceOf r_alive r_queued r_heap r_frameEnter r_framePc r_frameZone r_frameWait r_frameRegs hq
      exact br_f c2 (br_f (by decide) (br_f (by decide) (KD q_freeCount q_first q_heapSize q_depth q_cur q_inserted q_overflowed r_cellHead r_cellTail r_kindOf r_subjectOf r_valueOf r_labelOf r_nextOf r_ownerOf r_leaveOf r_pcOf r_snapshot r_cellPrev r_cellNext r_sourceOf r_alive r_queued r_heap r_frameEnter r_framePc r_frameZone r_frameWait r_frameRegs hq)))
    have hrep : cp_Wa cN fN lN ins fc g0 pre post st Xs f_cells f_functions f_limit f_status f_freeCount f_first f_size f_heapSize f_depth f_cur f_inserted f_overflowed a_bodySizes a_opAt a_aAt a_bAt a_baseValue a_settledValue a_outputValue a_changedMark a_cellHead a_cellTail a_kindOf a_subjectOf a_valueOf a_labelOf a_nextOf a_ownerOf a_leaveOf a_pcOf a_snapshot a_cellPrev a_cellNext a_sourceOf a_alive a_queued a_free a_nodeAt a_indexOf a_heap a_frameEnter a_framePc a_frameZone a_frameWait a_frameRegs → wX_drive_49 pst (wX_drive_4 pst (m + 1)) (nI step) f_cells f_functions f_limit f_status f_freeCount f_first f_size f_heapSize f_depth f_cur f_inserted f_overflowed a_bodySizes a_opAt a_aAt a_bAt a_baseValue a_settledValue a_outputValue a_changedMark a_cellHead a_cellTail a_kindOf a_subjectOf a_valueOf a_labelOf a_nextOf a_ownerOf a_leaveOf a_pcOf a_snapshot a_cellPrev a_cellNext a_sourceOf a_alive a_queued a_free a_nodeAt a_indexOf a_heap a_frameEnter a_framePc a_frameZone a_frameWait a_frameRegs := by
      intro hw
      unfold wX_drive_49
      refine cp_repair hw ?_ ?_
      · intro q_freeCount q_first q_heapSize q_depth q_cur q_inserted q_overflowed r_cellHead r_cellTail r_kindOf r_subjectOf r_valueOf r_labelOf r_nextOf r_ownerOf r_leaveOf r_pcOf r_snapshot r_cellPrev r_cellNext r_sourceOf r_alive r_queued r_heap r_frameEnter r_framePc r_frameZone r_frameWait r_frameRegs hq
        exact nm_r (nI_1 _) (K q_freeCount q_first q_heapSize q_depth q_cur q_inserted q_overflowed r_cellHead r_cellTail r_kindOf r_subjectOf r_valueOf r_labelOf r_nextOf r_ownerOf r_leaveOf r_pcOf r_snapshot r_cellPrev r_cellNext r_sourceOf r_alive r_queued r_heap r_frameEnter r_framePc r_frameZone r_frameWait r_frameRegs hq)
      · intro q_freeCount q_first q_heapSize q_depth q_cur q_inserted q_overflowed r_cellHead r_cellTail r_kindOf r_subjectOf r_valueOf r_labelOf r_nextOf r_ownerOf r_leaveOf r_pcOf r_snapshot r_cellPrev r_cellNext r_sourceOf r_alive r_queued r_heap r_frameEnter r_framePc r_frameZone r_frameWait r_frameRegs hq
        exact nm_r (nI_1 _) (KD' q_freeCount q_first q_heapSize q_depth q_cur q_inserted q_overflowed r_cellHead r_cellTail r_kindOf r_subjectOf r_valueOf r_labelOf r_nextOf r_ownerOf r_leaveOf r_pcOf r_snapshot r_cellPrev r_cellNext r_sourceOf r_alive r_queued r_heap r_frameEnter r_framePc r_frameZone r_frameWait r_frameRegs hq)
    rcases hx with hx | hx
    · have hx0 := hx
      obtain ⟨hM, hcur, ⟨X, Xs, rfl, hxw⟩, hE⟩ := hx
      obtain ⟨hB, hI, hN, hf, hne, hSt, hXR, hdp, hdl, hil, hCW, hg0, hRe, hov⟩ := hM
      have hl : (X :: Xs).length = Xs.length + 1 := rfl
      have hpl : pre.length ≤ 240 := by
        have h := hB.1.2.2.2.2.2.2.2.2.2.2.2.2
        have h1 := hB.1.2.2.2.2.2.2.1; have h2 := hB.1.2.2.2.2.2.2.2.2.1
        simp only [List.length_append] at h
        omega
      have ed1 : f_depth - 1 = nI Xs.length := by rw [hdp, hl]; exact nI_pred _
      refine br_f c1 (br_t rfl (br_t hov (br_f (by rw [hdp]; exact nI_nle (by omega) (by omega)) ?_)))
      rw [ed1, nI_clamp (n := Xs.length) (by omega)]
      refine And.intro (vp_in_nI (by omega) (by decide)) (br_f (by rw [hXR.2.2.2.2.1, hxw]; decide) ?_)
      refine cp_exec hx0 ?_ ?_
      · intro q_freeCount q_first q_heapSize q_depth q_cur q_inserted q_overflowed r_cellHead r_cellTail r_kindOf r_subjectOf r_valueOf r_labelOf r_nextOf r_ownerOf r_leaveOf r_pcOf r_snapshot r_cellPrev r_cellNext r_sourceOf r_alive r_queued r_heap r_frameEnter r_framePc r_frameZone r_frameWait r_frameRegs hq
        exact nm_r (nI_1 _) (K q_freeCount q_first q_heapSize q_depth q_cur q_inserted q_overflowed r_cellHead r_cellTail r_kindOf r_subjectOf r_valueOf r_labelOf r_nextOf r_ownerOf r_leaveOf r_pcOf r_snapshot r_cellPrev r_cellNext r_sourceOf r_alive r_queued r_heap r_frameEnter r_framePc r_frameZone r_frameWait r_frameRegs hq)
      · intro q_freeCount q_first q_heapSize q_depth q_cur q_inserted q_overflowed r_cellHead r_cellTail r_kindOf r_subjectOf r_valueOf r_labelOf r_nextOf r_ownerOf r_leaveOf r_pcOf r_snapshot r_cellPrev r_cellNext r_sourceOf r_alive r_queued r_heap r_frameEnter r_framePc r_frameZone r_frameWait r_frameRegs hq e
        exact nm_r (nI_1 _) (KO' q_freeCount q_first q_heapSize q_depth q_cur q_inserted q_overflowed r_cellHead r_cellTail r_kindOf r_subjectOf r_valueOf r_labelOf r_nextOf r_ownerOf r_leaveOf r_pcOf r_snapshot r_cellPrev r_cellNext r_sourceOf r_alive r_queued r_heap r_frameEnter r_framePc r_frameZone r_frameWait r_frameRegs hq e)
    · have hx0 := hx
      obtain ⟨hM, V, st', W, p', rfl, rfl, hRp, hX⟩ := hx
      obtain ⟨hB, hI, hN, hf, hne, hSt, hXR, hdp, hdl, hil, hCW, hg0, hRe, hov⟩ := hM
      rcases hX with ⟨rfl, rfl, rfl⟩ | ⟨Y, Ys, rfl, hxw, hE⟩
      · exact br_f c1 (br_t rfl (br_t hov (br_t (by rw [hdp]; decide) (hrep hx0))))
      · have hl : (Y :: Ys).length = Ys.length + 1 := rfl
        have hpl : pre.length ≤ 240 := by
          have h := hB.1.2.2.2.2.2.2.2.2.2.2.2.2
          have h1 := hB.1.2.2.2.2.2.2.1; have h2 := hB.1.2.2.2.2.2.2.2.2.1
          simp only [List.length_append] at h
          omega
        have ed1 : f_depth - 1 = nI Ys.length := by rw [hdp, hl]; exact nI_pred _
        have hxw' : ∃ n, n < 256 ∧ cp_xw Y = nI n := by
          have hne' : ∃ p0 z, pre ++ W = p0 ++ [z] := by
            rcases cp_nc (pre ++ W) with h | h
            · obtain ⟨p0, z, e⟩ := hne
              rw [e] at h; simp at h
            · exact h
          obtain ⟨p0, z, ez⟩ := hne'
          refine ⟨cp_id z, ?_, ?_⟩
          · refine (hB.2.1 z ?_).1.1
            rw [← List.append_assoc, ez]; simp
          · rw [hxw, ← cp_lt_app, ez, cp_lt_snoc]
        obtain ⟨w, hw, ew⟩ := hxw'
        refine br_f c1 (br_t rfl (br_t hov (br_f (by rw [hdp]; exact nI_nle (by omega) (by omega)) ?_)))
        rw [ed1, nI_clamp (n := Ys.length) (by omega)]
        exact And.intro (vp_in_nI (by omega) (by decide)) (br_t (by rw [hXR.2.2.2.2.1, ew]; exact nI_pos' (by omega)) (hrep hx0))
theorem cp_drive {pst : SX → Prop} {cN fN lN mu : Nat} {g0 : cp_N} (hx : cp_Sx cN fN lN g0 mu f_cells f_functions f_limit f_status f_freeCount f_first f_size f_heapSize f_depth f_cur f_inserted f_overflowed a_bodySizes a_opAt a_aAt a_bAt a_baseValue a_settledValue a_outputValue a_changedMark a_cellHead a_cellTail a_kindOf a_subjectOf a_valueOf a_labelOf a_nextOf a_ownerOf a_leaveOf a_pcOf a_snapshot a_cellPrev a_cellNext a_sourceOf a_alive a_queued a_free a_nodeAt a_indexOf a_heap a_frameEnter a_framePc a_frameZone a_frameWait a_frameRegs) (hmu : mu ≤ 20000) (KO : ∀ (q_freeCount q_first q_heapSize q_depth q_cur q_inserted q_overflowed : Int32) (r_cellHead r_cellTail r_kindOf r_subjectOf r_valueOf r_labelOf r_nextOf r_ownerOf r_leaveOf r_pcOf r_snapshot r_cellPrev r_cellNext r_sourceOf r_alive r_queued r_heap r_frameEnter r_framePc r_frameZone r_frameWait r_frameRegs : Nat → Int32), cp_Ov (f_cells, a_bodySizes, a_opAt, a_aAt, a_bAt) a_baseValue g0 lN → q_overflowed = 1 → pst (f_cells, f_functions, f_limit, f_status, q_freeCount, q_first, f_size, q_heapSize, q_depth, q_cur, q_inserted, q_overflowed, a_bodySizes, a_opAt, a_aAt, a_bAt, a_baseValue, a_settledValue, a_outputValue, a_changedMark, r_cellHead, r_cellTail, r_kindOf, r_subjectOf, r_valueOf, r_labelOf, r_nextOf, r_ownerOf, r_leaveOf, r_pcOf, r_snapshot, r_cellPrev, r_cellNext, r_sourceOf, r_alive, r_queued, a_free, a_nodeAt, a_indexOf, r_heap, r_frameEnter, r_framePc, r_frameZone, r_frameWait, r_frameRegs)) (KD : ∀ (q_freeCount q_first q_heapSize q_depth q_cur q_inserted q_overflowed : Int32) (r_cellHead r_cellTail r_kindOf r_subjectOf r_valueOf r_labelOf r_nextOf r_ownerOf r_leaveOf r_pcOf r_snapshot r_cellPrev r_cellNext r_sourceOf r_alive r_queued r_heap r_frameEnter r_framePc r_frameZone r_frameWait r_frameRegs : Nat → Int32), cp_Fn cN fN lN g0 f_cells f_functions f_limit f_status q_freeCount q_first f_size q_heapSize q_depth q_cur q_inserted q_overflowed a_bodySizes a_opAt a_aAt a_bAt a_baseValue a_settledValue a_outputValue a_changedMark r_cellHead r_cellTail r_kindOf r_subjectOf r_valueOf r_labelOf r_nextOf r_ownerOf r_leaveOf r_pcOf r_snapshot r_cellPrev r_cellNext r_sourceOf r_alive r_queued a_free a_nodeAt a_indexOf r_heap r_frameEnter r_framePc r_frameZone r_frameWait r_frameRegs → pst (f_cells, f_functions, f_limit, f_status, q_freeCount, q_first, f_size, q_heapSize, q_depth, q_cur, q_inserted, q_overflowed, a_bodySizes, a_opAt, a_aAt, a_bAt, a_baseValue, a_settledValue, a_outputValue, a_changedMark, r_cellHead, r_cellTail, r_kindOf, r_subjectOf, r_valueOf, r_labelOf, r_nextOf, r_ownerOf, r_leaveOf, r_pcOf, r_snapshot, r_cellPrev, r_cellNext, r_sourceOf, r_alive, r_queued, a_free, a_nodeAt, a_indexOf, r_heap, r_frameEnter, r_framePc, r_frameZone, r_frameWait, r_frameRegs)) : wpX_drive pst (f_cells, f_functions, f_limit, f_status, f_freeCount, f_first, f_size, f_heapSize, f_depth, f_cur, f_inserted, f_overflowed, a_bodySizes, a_opAt, a_aAt, a_bAt, a_baseValue, a_settledValue, a_outputValue, a_changedMark, a_cellHead, a_cellTail, a_kindOf, a_subjectOf, a_valueOf, a_labelOf, a_nextOf, a_ownerOf, a_leaveOf, a_pcOf, a_snapshot, a_cellPrev, a_cellNext, a_sourceOf, a_alive, a_queued, a_free, a_nodeAt, a_indexOf, a_heap, a_frameEnter, a_framePc, a_frameZone, a_frameWait, a_frameRegs) :=
  ⟨mu + 2, cp_drive_loop KO KD mu 0 (mu + 2) f_freeCount f_first f_heapSize f_depth f_cur f_inserted f_overflowed a_cellHead a_cellTail a_kindOf a_subjectOf a_valueOf a_labelOf a_nextOf a_ownerOf a_leaveOf a_pcOf a_snapshot a_cellPrev a_cellNext a_sourceOf a_alive a_queued a_heap a_frameEnter a_framePc a_frameZone a_frameWait a_frameRegs (by omega) (by omega) hx⟩
end
end
section
/-! ===== the reference follows the true machine ===== -/
/-- the trace in the reference's arrays -/
def cp_Tr (ks sb vs : Nat → Int32) : Nat → List cp_N → Prop
  | _, [] => True
  | i, g :: t => ks i = cp_k g ∧ sb i = nI (cp_s g) ∧ vs i = cp_v g ∧ cp_Tr ks sb vs (i + 1) t
theorem cp_Tr_app {ks sb vs : Nat → Int32} : ∀ (i : Nat) (a b : List cp_N), cp_Tr ks sb vs i (a ++ b) ↔ cp_Tr ks sb vs i a ∧ cp_Tr ks sb vs (i + a.length) b
  | i, [], b => by show _ ↔ True ∧ _; rw [true_and]; rfl
  | i, g :: t, b => by
    have ih := cp_Tr_app (ks := ks) (sb := sb) (vs := vs) (i + 1) t b
    have e : i + 1 + t.length = i + (g :: t).length := by show _ = i + (t.length + 1); omega
    rw [e] at ih
    show ks i = cp_k g ∧ sb i = nI (cp_s g) ∧ vs i = cp_v g ∧ cp_Tr ks sb vs (i + 1) (t ++ b) ↔ (ks i = cp_k g ∧ sb i = nI (cp_s g) ∧ vs i = cp_v g ∧ cp_Tr ks sb vs (i + 1) t) ∧ _
    rw [ih, and_assoc, and_assoc, and_assoc]
theorem cp_Tr_fr {ks sb vs ks' sb' vs' : Nat → Int32} : ∀ (i : Nat) (l : List cp_N), (∀ j, i ≤ j → j < i + l.length → ks' j = ks j ∧ sb' j = sb j ∧ vs' j = vs j) → cp_Tr ks sb vs i l → cp_Tr ks' sb' vs' i l
  | _, [], _, _ => trivial
  | i, g :: t, h, ht => by
    have hi := h i (Nat.le_refl _) (by show i < i + (t.length + 1); omega)
    exact ⟨hi.1.trans ht.1, hi.2.1.trans ht.2.1, hi.2.2.trans ht.2.2.1, cp_Tr_fr (i + 1) t (fun j h1 h2 => h j (by omega) (by show j < i + (t.length + 1); omega)) ht.2.2.2⟩
theorem cp_Tr_snoc {ks sb vs : Nat → Int32} {T : List cp_N} {g : cp_N} {k s v : Int32} (h : cp_Tr ks sb vs 0 T) (hk : k = cp_k g) (hs : s = nI (cp_s g)) (hv : v = cp_v g) : cp_Tr (upd ks T.length k) (upd sb T.length s) (upd vs T.length v) 0 (T ++ [g]) := by
  refine (cp_Tr_app _ _ _).mpr ⟨cp_Tr_fr _ _ (fun j _ h2 => ⟨pk_un (by omega), pk_un (by omega), pk_un (by omega)⟩) h, ?_⟩
  rw [Nat.zero_add]
  exact ⟨by rw [pk_us]; exact hk, by rw [pk_us]; exact hs, by rw [pk_us]; exact hv, trivial⟩
/-- the activations in the reference's arrays -/
def cp_YR (fN : Nat) (ofn oar onx rg : Nat → Int32) : List cp_F → Prop
  | [] => True
  | A :: st => ofn st.length = nI A.2.1 ∧ oar st.length = A.2.2.1 ∧ onx st.length = nI A.2.2.2.1 ∧ A.2.2.2.1 ≤ 63 ∧ A.2.1 < fN ∧ cp_rg rg st.length = A.2.2.2.2 ∧ cp_YR fN ofn oar onx rg st
theorem cp_YR_fr {fN : Nat} {ofn oar onx rg ofn' oar' onx' rg' : Nat → Int32} : ∀ (st : List cp_F), (∀ i, i < st.length → ofn' i = ofn i ∧ oar' i = oar i ∧ onx' i = onx i ∧ cp_rg rg' i = cp_rg rg i) → cp_YR fN ofn oar onx rg st → cp_YR fN ofn' oar' onx' rg' st
  | [], _, _ => trivial
  | A :: st, h, hx => by
    have hi := h st.length (by show _ < st.length + 1; omega)
    obtain ⟨h1, h2, h3, h4, h5, h6, h7⟩ := hx
    exact ⟨hi.1.trans h1, hi.2.1.trans h2, hi.2.2.1.trans h3, h4, h5, hi.2.2.2.trans h6, cp_YR_fr st (fun i hi => h i (by show _ < st.length + 1; omega)) h7⟩
/-- the reference stands at a point of the machine -/
def cp_Yc (cN fN lN : Nat) (base : Nat → Int32) (st : List cp_F) (T : List cp_N) (h_cells h_functions h_limit h_state h_entries h_depth : Int32) (b_codeOp b_codeA b_codeB b_bodyLength b_baseValue b_settledValue b_outputValue b_changedMark b_kinds b_subjects b_values b_store b_openFunction b_openArg b_openNext b_regs : Nat → Int32) : Prop :=
  (h_cells = nI cN ∧ 2 ≤ cN ∧ cN ≤ 16 ∧ fN ≤ 6 ∧ h_limit = nI lN ∧ lN ≤ 120 ∧ h_entries = nI T.length ∧ T.length ≤ lN ∧ h_depth = nI st.length ∧ st.length ≤ T.length) ∧
  cp_Tr b_kinds b_subjects b_values 0 T ∧ (∀ c, c < cN → b_store c = cp_sto base T c) ∧ cp_YR fN b_openFunction b_openArg b_openNext b_regs st ∧ cp_CW (h_cells, b_bodyLength, b_codeOp, b_codeA, b_codeB) fN
section
variable {h_cells h_functions h_limit h_state h_entries h_depth : Int32} {b_codeOp b_codeA b_codeB b_bodyLength b_baseValue b_settledValue b_outputValue b_changedMark b_kinds b_subjects b_values b_store b_openFunction b_openArg b_openNext b_regs : Nat → Int32}
theorem cp_yaddress {post : Int32 → Prop} {v : Int32} (h0 : ¬ h_cells = 0) (K : post (cp_ad h_cells v)) : wpY_address post (h_cells, h_functions, h_limit, h_state, h_entries, h_depth, b_codeOp, b_codeA, b_codeB, b_bodyLength, b_baseValue, b_settledValue, b_outputValue, b_changedMark, b_kinds, b_subjects, b_values, b_store, b_openFunction, b_openArg, b_openNext, b_regs) v := by
  refine And.intro h0 (nm_e ?_)
  unfold cp_ad at K
  by_cases h : 0 ≤ v - v / h_cells * h_cells
  · rw [if_pos h] at K; exact br_t h K
  · rw [if_neg h] at K; exact br_f h (nm_e K)
theorem cp_yappend {post : Int32 → SY → Prop} {e lN : Nat} {k s v : Int32} (he : h_entries = nI e) (hl : h_limit = nI lN) (hlN : lN ≤ 120) (hel : e ≤ lN)
    (K1 : e < lN → post 1 (h_cells, h_functions, h_limit, h_state, nI (e + 1), h_depth, b_codeOp, b_codeA, b_codeB, b_bodyLength, b_baseValue, b_settledValue, b_outputValue, b_changedMark, upd b_kinds e k, upd b_subjects e s, upd b_values e v, b_store, b_openFunction, b_openArg, b_openNext, b_regs)) (K0 : e = lN → post 0 (h_cells, h_functions, h_limit, h_state, h_entries, h_depth, b_codeOp, b_codeA, b_codeB, b_bodyLength, b_baseValue, b_settledValue, b_outputValue, b_changedMark, b_kinds, b_subjects, b_values, b_store, b_openFunction, b_openArg, b_openNext, b_regs)) : wpY_append post (h_cells, h_functions, h_limit, h_state, h_entries, h_depth, b_codeOp, b_codeA, b_codeB, b_bodyLength, b_baseValue, b_settledValue, b_outputValue, b_changedMark, b_kinds, b_subjects, b_values, b_store, b_openFunction, b_openArg, b_openNext, b_regs) k s v := by
  subst he hl
  by_cases h : e < lN
  · have ein : vp_in (nI e) 120 := vp_in_nI (by omega) (by decide)
    refine br_t (nI_lt h (by omega)) ?_
    rw [nI_clamp (n := e) (by omega)]
    exact ⟨ein, nm_e ⟨ein, nm_e ⟨ein, nm_e (nm_r (nI_1 _) (K1 h))⟩⟩⟩
  · exact br_f (nI_nlt (by omega) (by omega)) (K0 (by omega))
/-- a silent step -/
theorem cp_yfin {post : Int32 → SY → Prop} {cN fN lN p : Nat} {base : Nat → Int32} {A : cp_F} {rest : List cp_F} {T : List cp_N} {onx' rg' : Nat → Int32} {r : Nat → Int32} (hY : cp_Yc cN fN lN base (A :: rest) T h_cells h_functions h_limit h_state h_entries h_depth b_codeOp b_codeA b_codeB b_bodyLength b_baseValue b_settledValue b_outputValue b_changedMark b_kinds b_subjects b_values b_store b_openFunction b_openArg b_openNext b_regs) (hp : onx' rest.length = nI p) (hp63 : p ≤ 63) (hr : cp_rg rg' rest.length = r)
    (ho : ∀ i, i < rest.length → onx' i = b_openNext i ∧ cp_rg rg' i = cp_rg b_regs i) (K1 : ∀ (u_entries u_depth : Int32) (w_kinds w_subjects w_values w_store w_openFunction w_openArg w_openNext w_regs : Nat → Int32), cp_Yc cN fN lN base (cp_ps A p r :: rest) T h_cells h_functions h_limit h_state u_entries u_depth b_codeOp b_codeA b_codeB b_bodyLength b_baseValue b_settledValue b_outputValue b_changedMark w_kinds w_subjects w_values w_store w_openFunction w_openArg w_openNext w_regs → post 1 (h_cells, h_functions, h_limit, h_state, u_entries, u_depth, b_codeOp, b_codeA, b_codeB, b_bodyLength, b_baseValue, b_settledValue, b_outputValue, b_changedMark, w_kinds, w_subjects, w_values, w_store, w_openFunction, w_openArg, w_openNext, w_regs)) : post 1 (h_cells, h_functions, h_limit, h_state, h_entries, h_depth, b_codeOp, b_codeA, b_codeB, b_bodyLength, b_baseValue, b_settledValue, b_outputValue, b_changedMark, b_kinds, b_subjects, b_values, b_store, b_openFunction, b_openArg, onx', rg') := by
  obtain ⟨n0, hT, hS, ⟨y1, y2, y3, y4, y5, y6, y7⟩, hC⟩ := hY
  exact K1 _ _ _ _ _ _ _ _ _ _ ⟨n0, hT, hS, ⟨y1, y2, hp, hp63, y5, hr, cp_YR_fr rest (fun i hi => ⟨rfl, rfl, (ho i hi).1, (ho i hi).2⟩) y7⟩, hC⟩
theorem cp_narrow1 : narrow .boolean (.int 1) = .int 1 := rfl
theorem cp_narrow0 : narrow .boolean (.int 0) = .int 0 := rfl
theorem cp_yenter {post : Int32 → SY → Prop} {cN fN lN : Nat} {base : Nat → Int32} {st : List cp_F} {T : List cp_N} {g : cp_N} (hY : cp_Yc cN fN lN base st T h_cells h_functions h_limit h_state h_entries h_depth b_codeOp b_codeA b_codeB b_bodyLength b_baseValue b_settledValue b_outputValue b_changedMark b_kinds b_subjects b_values b_store b_openFunction b_openArg b_openNext b_regs) (hk : cp_k g = 0) (hs : cp_s g < fN)
    (K1 : ∀ (u_entries u_depth : Int32) (w_kinds w_subjects w_values w_store w_openFunction w_openArg w_openNext w_regs : Nat → Int32), T.length < lN → cp_Yc cN fN lN base (cp_nf g :: st) (T ++ [g]) h_cells h_functions h_limit h_state u_entries u_depth b_codeOp b_codeA b_codeB b_bodyLength b_baseValue b_settledValue b_outputValue b_changedMark w_kinds w_subjects w_values w_store w_openFunction w_openArg w_openNext w_regs → post 1 (h_cells, h_functions, h_limit, h_state, u_entries, u_depth, b_codeOp, b_codeA, b_codeB, b_bodyLength, b_baseValue, b_settledValue, b_outputValue, b_changedMark, w_kinds, w_subjects, w_values, w_store, w_openFunction, w_openArg, w_openNext, w_regs)) (K0 : ∀ (u_entries u_depth : Int32) (w_kinds w_subjects w_values w_store w_openFunction w_openArg w_openNext w_regs : Nat → Int32), T.length = lN → post 0 (h_cells, h_functions, h_limit, h_state, u_entries, u_depth, b_codeOp, b_codeA, b_codeB, b_bodyLength, b_baseValue, b_settledValue, b_outputValue, b_changedMark, w_kinds, w_subjects, w_values, w_store, w_openFunction, w_openArg, w_openNext, w_regs)) : wpY_enter post (h_cells, h_functions, h_limit, h_state, h_entries, h_depth, b_codeOp, b_codeA, b_codeB, b_bodyLength, b_baseValue, b_settledValue, b_outputValue, b_changedMark, b_kinds, b_subjects, b_values, b_store, b_openFunction, b_openArg, b_openNext, b_regs) (nI (cp_s g)) (cp_v g) := by
  obtain ⟨⟨n1, n2, n3, n4, n5, n6, n7, n8, n9, n10⟩, hT, hS, hR, hC⟩ := hY
  unfold wpY_enter
  refine cp_yappend n7 n5 n6 n8 (fun hlt => ?_) (fun he => ?_)
  · have ed : h_depth.toNatClampNeg = st.length := by rw [n9]; exact nI_clamp (by omega)
    have ind : vp_in h_depth 120 := by rw [n9]; exact vp_in_nI (by omega) (by decide)
    have e0 : h_depth * 4 = nI (st.length * 4 + 0) := by rw [n9]; exact pk_mul _ 4
    have e1 : h_depth * 4 + 1 = nI (st.length * 4 + 1) := by rw [e0]; exact nI_1 _
    have e2 : h_depth * 4 + 2 = nI (st.length * 4 + 2) := by rw [e0]; exact nI_add _ 2
    have e3 : h_depth * 4 + 3 = nI (st.length * 4 + 3) := by rw [e0]; exact nI_add _ 3
    refine br_f (by decide) (And.intro ind ?_)
    rw [e1, e2, e3, e0, ed, nI_clamp (n := st.length * 4 + 0) (by omega), nI_clamp (n := st.length * 4 + 1) (by omega), nI_clamp (n := st.length * 4 + 2) (by omega), nI_clamp (n := st.length * 4 + 3) (by omega)]
    refine nm_e (And.intro ind (nm_e (And.intro ind (nm_e (And.intro (vp_in_nI (by omega) (by decide)) (nm_e (And.intro (vp_in_nI (by omega) (by decide)) (nm_e (And.intro (vp_in_nI (by omega) (by decide)) (nm_e (And.intro (vp_in_nI (by omega) (by decide)) (nm_e ?_))))))))))))
    refine nm_r (e' := nI (st.length + 1)) (by rw [n9]; exact nI_1 _) ?_
    refine K1 _ _ _ _ _ _ _ _ _ _ hlt ⟨⟨n1, n2, n3, n4, n5, n6, by simp, by simp; omega, rfl, by simp; omega⟩, cp_Tr_snoc hT hk.symm rfl rfl, fun c hc => ?_, ⟨pk_us, pk_us, pk_us, Nat.zero_le _, hs, ?_, ?_⟩, hC⟩
    · rw [cp_sto_skip (by rw [hk]; intro h; exact absurd h.1 (by decide))]; exact hS c hc
    · rw [cp_rg_upd (by decide), cp_rg_upd (by decide), cp_rg_upd (by decide), cp_rg_upd (by decide)]
      funext q
      show upd (upd (upd (upd (cp_rg b_regs st.length) 0 (cp_v g)) 1 0) 2 0) 3 0 q = upd (fun _ => 0) 0 (cp_v g) q
      by_cases h3 : q = 3
      · rw [h3, pk_us, pk_un (by decide)]
      · rw [pk_un h3]
        by_cases h2 : q = 2
        · rw [h2, pk_us, pk_un (by decide)]
        · rw [pk_un h2]
          by_cases h1 : q = 1
          · rw [h1, pk_us, pk_un (by decide)]
          · rw [pk_un h1]
            by_cases h0 : q = 0
            · rw [h0, pk_us, pk_us]
            · rw [pk_un h0, pk_un h0]; exact if_neg (by omega)
    · refine cp_YR_fr st (fun i hi => ⟨pk_un (by omega), pk_un (by omega), pk_un (by omega), ?_⟩) hR
      rw [cp_rg_ne (by decide) (by omega), cp_rg_ne (by decide) (by omega), cp_rg_ne (by decide) (by omega), cp_rg_ne (by decide) (by omega)]
  · exact br_t rfl (K0 _ _ _ _ _ _ _ _ _ _ he)
theorem cp_ystep {post : Int32 → SY → Prop} {cN fN lN : Nat} {base : Nat → Int32} {st st' : List cp_F} {T T' : List cp_N} (hY : cp_Yc cN fN lN base st T h_cells h_functions h_limit h_state h_entries h_depth b_codeOp b_codeA b_codeB b_bodyLength b_baseValue b_settledValue b_outputValue b_changedMark b_kinds b_subjects b_values b_store b_openFunction b_openArg b_openNext b_regs) (hM : cp_MS (h_cells, b_bodyLength, b_codeOp, b_codeA, b_codeB) base st T st' T')
    (K1 : ∀ (u_entries u_depth : Int32) (w_kinds w_subjects w_values w_store w_openFunction w_openArg w_openNext w_regs : Nat → Int32), T'.length ≤ lN → cp_Yc cN fN lN base st' T' h_cells h_functions h_limit h_state u_entries u_depth b_codeOp b_codeA b_codeB b_bodyLength b_baseValue b_settledValue b_outputValue b_changedMark w_kinds w_subjects w_values w_store w_openFunction w_openArg w_openNext w_regs → post 1 (h_cells, h_functions, h_limit, h_state, u_entries, u_depth, b_codeOp, b_codeA, b_codeB, b_bodyLength, b_baseValue, b_settledValue, b_outputValue, b_changedMark, w_kinds, w_subjects, w_values, w_store, w_openFunction, w_openArg, w_openNext, w_regs)) (K0 : ∀ (u_entries u_depth : Int32) (w_kinds w_subjects w_values w_store w_openFunction w_openArg w_openNext w_regs : Nat → Int32), lN < T'.length → post 0 (h_cells, h_functions, h_limit, h_state, u_entries, u_depth, b_codeOp, b_codeA, b_codeB, b_bodyLength, b_baseValue, b_settledValue, b_outputValue, b_changedMark, w_kinds, w_subjects, w_values, w_store, w_openFunction, w_openArg, w_openNext, w_regs)) : wpY_step post (h_cells, h_functions, h_limit, h_state, h_entries, h_depth, b_codeOp, b_codeA, b_codeB, b_bodyLength, b_baseValue, b_settledValue, b_outputValue, b_changedMark, b_kinds, b_subjects, b_values, b_store, b_openFunction, b_openArg, b_openNext, b_regs) := by
  have hY0 := hY
  have hA : ∃ A rest, st = A :: rest := by
    rcases hM with ⟨⟨A, _, R, e, _⟩, _⟩ | ⟨g, ⟨A, R, e, _⟩, _⟩
    · exact ⟨A, R, e⟩
    · exact ⟨A, R, e⟩
  obtain ⟨A, rest, rfl⟩ := hA
  obtain ⟨⟨n1, n2, n3, n4, n5, n6, n7, n8, n9, n10⟩, hT, hS, ⟨y1, y2, y3, y4, y5, y6, y7⟩, hC⟩ := hY
  have hl : (A :: rest).length = rest.length + 1 := rfl
  have ed1 : h_depth - 1 = nI rest.length := by rw [n9, hl]; exact nI_pred _
  have edc : (nI rest.length).toNatClampNeg = rest.length := nI_clamp (by omega)
  have ind : vp_in (nI rest.length) 120 := vp_in_nI (by omega) (by decide)
  obtain ⟨hbz, hbz16, _⟩ := hC _ y5
  have hbz' : b_bodyLength A.2.1 = nI (cp_bz (h_cells, b_bodyLength, b_codeOp, b_codeA, b_codeB) A.2.1) := hbz
  refine nm_r ed1 (And.intro ind ?_)
  rw [edc]
  refine nm_r y1 (And.intro ind (nm_r y3 (And.intro (vp_in_nI (by omega) (by decide)) ?_)))
  rw [nI_clamp (n := A.2.1) (by omega), hbz']
  have snap : ∀ g : cp_N, (T ++ [g]).length = T.length + 1 := fun g => by simp
  by_cases hpc : A.2.2.2.1 < cp_bz (h_cells, b_bodyLength, b_codeOp, b_codeA, b_codeB) A.2.1
  · obtain ⟨i1, i2, i3, i4, i5, i6, i7, i8, i9⟩ := cp_ins hC y5 n4 hpc
    have e16 : nI A.2.1 * 16 + nI A.2.2.2.1 = nI (A.2.1 * 16 + A.2.2.2.1) := by rw [← nI_add, ← pk_mul]; rfl
    have ins_ : vp_in (nI (A.2.1 * 16 + A.2.2.2.1)) 96 := vp_in_nI i2 (by decide)
    refine br_t (nI_lt hpc (by omega)) (And.intro ind ?_)
    rw [nI_1, e16, nI_clamp (n := A.2.1 * 16 + A.2.2.2.1) (by omega)]
    refine nm_e (And.intro ins_ (nm_r (e' := cp_op (h_cells, b_bodyLength, b_codeOp, b_codeA, b_codeB) A) rfl (And.intro ins_ (nm_e (And.intro ins_ (nm_r (e' := cp_rb (h_cells, b_bodyLength, b_codeOp, b_codeA, b_codeB) A) rfl ?_))))))
    have onxo : ∀ i, i < rest.length → upd b_openNext rest.length (nI (A.2.2.2.1 + 1)) i = b_openNext i := fun i hi => pk_un (by omega)
    -- registers
    have hva : ∀ h : cp_ra (h_cells, b_bodyLength, b_codeOp, b_codeA, b_codeB) A < 4, b_regs (rest.length * 4 + cp_ra (h_cells, b_bodyLength, b_codeOp, b_codeA, b_codeB) A) = cp_va (h_cells, b_bodyLength, b_codeOp, b_codeA, b_codeB) A := fun h => by
      unfold cp_va
      rw [← y6, cp_rg_at h]
    have hvb : ∀ b, b < 4 → cp_rb (h_cells, b_bodyLength, b_codeOp, b_codeA, b_codeB) A = nI b → b_regs (rest.length * 4 + b) = cp_vb (h_cells, b_bodyLength, b_codeOp, b_codeA, b_codeB) A := fun b hb e => by
      unfold cp_vb
      rw [e, nI_clamp (by omega), ← y6, cp_rg_at hb]
    have e7 : ∀ a, b_codeA (A.2.1 * 16 + A.2.2.2.1) = nI a → nI rest.length * 4 + b_codeA (A.2.1 * 16 + A.2.2.2.1) = nI (rest.length * 4 + a) := fun a e => by
      rw [e, ← nI_add, ← pk_mul]; rfl
    have e8 : ∀ b, cp_rb (h_cells, b_bodyLength, b_codeOp, b_codeA, b_codeB) A = nI b → nI rest.length * 4 + cp_rb (h_cells, b_bodyLength, b_codeOp, b_codeA, b_codeB) A = nI (rest.length * 4 + b) := fun b e => by
      rw [e, ← nI_add, ← pk_mul]; rfl
    rcases hM with ⟨⟨A1, A', R, eA, _, hs, rfl⟩, rfl⟩ | ⟨g, ⟨A1, R, eA, hOC⟩, hrd, rfl⟩
    · obtain ⟨rfl, rfl⟩ := List.cons.inj eA
      have F : ∀ v, cp_ra (h_cells, b_bodyLength, b_codeOp, b_codeA, b_codeB) A < 4 → A' = cp_ps A (A.2.2.2.1 + 1) (upd A.2.2.2.2 (cp_ra (h_cells, b_bodyLength, b_codeOp, b_codeA, b_codeB) A) v) → post 1 (h_cells, h_functions, h_limit, h_state, h_entries, h_depth, b_codeOp, b_codeA, b_codeB, b_bodyLength, b_baseValue, b_settledValue, b_outputValue, b_changedMark, b_kinds, b_subjects, b_values, b_store, b_openFunction, b_openArg, upd b_openNext rest.length (nI (A.2.2.2.1 + 1)), upd b_regs (rest.length * 4 + cp_ra (h_cells, b_bodyLength, b_codeOp, b_codeA, b_codeB) A) v) := fun v h4 e =>
        cp_yfin (p := A.2.2.2.1 + 1) hY0 pk_us (by omega) (by rw [cp_rg_upd h4, y6]) (fun i hi => ⟨onxo i hi, cp_rg_ne h4 (by omega)⟩) (fun u_entries u_depth w_kinds w_subjects w_values w_store w_openFunction w_openArg w_openNext w_regs h => K1 u_entries u_depth w_kinds w_subjects w_values w_store w_openFunction w_openArg w_openNext w_regs n8 (by rw [e]; exact h))
      rcases hs with ⟨op, rfl⟩ | ⟨op, rfl⟩ | ⟨op, rfl⟩ | ⟨op, rfl⟩ | ⟨op, rfl⟩ | ⟨op, hle, rfl⟩ | ⟨op, hle, rfl⟩ | ⟨op, rfl⟩ | ⟨op, hle, rfl⟩ | ⟨op, hle, rfl⟩
      · obtain ⟨ra4, era⟩ := i7 (by rw [op]; decide)
        have era' : b_codeA (A.2.1 * 16 + A.2.2.2.1) = nI (cp_ra (h_cells, b_bodyLength, b_codeOp, b_codeA, b_codeB) A) := era
        refine nm_r (e7 _ era') ?_
        refine nm_e ?_
        rw [op, nI_clamp (n := rest.length * 4 + cp_ra (h_cells, b_bodyLength, b_codeOp, b_codeA, b_codeB) A) (by omega)]
        have in7 : vp_in (nI (rest.length * 4 + cp_ra (h_cells, b_bodyLength, b_codeOp, b_codeA, b_codeB) A)) 480 := vp_in_nI (by omega) (by decide)
        refine br_t rfl (And.intro in7 (nm_e ?_))
        exact F _ ra4 rfl
      · obtain ⟨ra4, era⟩ := i7 (by rw [op]; decide)
        have era' : b_codeA (A.2.1 * 16 + A.2.2.2.1) = nI (cp_ra (h_cells, b_bodyLength, b_codeOp, b_codeA, b_codeB) A) := era
        obtain ⟨b, hb, eb⟩ := i9 (by rw [op]; decide) (by rw [op]; decide) (by rw [op]; decide)
        refine nm_r (e7 _ era') ?_
        refine nm_r (e8 b eb) ?_
        rw [op, nI_clamp (n := rest.length * 4 + cp_ra (h_cells, b_bodyLength, b_codeOp, b_codeA, b_codeB) A) (by omega)]
        rw [nI_clamp (n := rest.length * 4 + b) (by omega), hvb b hb eb]
        have in7 : vp_in (nI (rest.length * 4 + cp_ra (h_cells, b_bodyLength, b_codeOp, b_codeA, b_codeB) A)) 480 := vp_in_nI (by omega) (by decide)
        have in8 : vp_in (nI (rest.length * 4 + b)) 480 := vp_in_nI (by omega) (by decide)
        refine br_f (by decide) (br_t rfl (And.intro in8 (And.intro in7 (nm_e ?_))))
        exact F _ ra4 rfl
      · obtain ⟨ra4, era⟩ := i7 (by rw [op]; decide)
        have era' : b_codeA (A.2.1 * 16 + A.2.2.2.1) = nI (cp_ra (h_cells, b_bodyLength, b_codeOp, b_codeA, b_codeB) A) := era
        obtain ⟨b, hb, eb⟩ := i9 (by rw [op]; decide) (by rw [op]; decide) (by rw [op]; decide)
        refine nm_r (e7 _ era') ?_
        refine nm_r (e8 b eb) ?_
        rw [op, nI_clamp (n := rest.length * 4 + cp_ra (h_cells, b_bodyLength, b_codeOp, b_codeA, b_codeB) A) (by omega)]
        rw [nI_clamp (n := rest.length * 4 + b) (by omega), hva ra4, hvb b hb eb]
        have in7 : vp_in (nI (rest.length * 4 + cp_ra (h_cells, b_bodyLength, b_codeOp, b_codeA, b_codeB) A)) 480 := vp_in_nI (by omega) (by decide)
        have in8 : vp_in (nI (rest.length * 4 + b)) 480 := vp_in_nI (by omega) (by decide)
        refine br_f (by decide) (br_f (by decide) (br_t rfl (And.intro in7 (And.intro in8 (And.intro in7 (nm_e ?_))))))
        exact F _ ra4 rfl
      · obtain ⟨ra4, era⟩ := i7 (by rw [op]; decide)
        have era' : b_codeA (A.2.1 * 16 + A.2.2.2.1) = nI (cp_ra (h_cells, b_bodyLength, b_codeOp, b_codeA, b_codeB) A) := era
        obtain ⟨b, hb, eb⟩ := i9 (by rw [op]; decide) (by rw [op]; decide) (by rw [op]; decide)
        refine nm_r (e7 _ era') ?_
        refine nm_r (e8 b eb) ?_
        rw [op, nI_clamp (n := rest.length * 4 + cp_ra (h_cells, b_bodyLength, b_codeOp, b_codeA, b_codeB) A) (by omega)]
        rw [nI_clamp (n := rest.length * 4 + b) (by omega), hva ra4, hvb b hb eb]
        have in7 : vp_in (nI (rest.length * 4 + cp_ra (h_cells, b_bodyLength, b_codeOp, b_codeA, b_codeB) A)) 480 := vp_in_nI (by omega) (by decide)
        have in8 : vp_in (nI (rest.length * 4 + b)) 480 := vp_in_nI (by omega) (by decide)
        refine br_f (by decide) (br_f (by decide) (br_f (by decide) (br_t rfl (And.intro in7 (And.intro in8 (And.intro in7 (nm_e ?_)))))))
        exact F _ ra4 rfl
      · obtain ⟨ra4, era⟩ := i7 (by rw [op]; decide)
        have era' : b_codeA (A.2.1 * 16 + A.2.2.2.1) = nI (cp_ra (h_cells, b_bodyLength, b_codeOp, b_codeA, b_codeB) A) := era
        obtain ⟨b, hb, eb⟩ := i9 (by rw [op]; decide) (by rw [op]; decide) (by rw [op]; decide)
        refine nm_r (e7 _ era') ?_
        refine nm_r (e8 b eb) ?_
        rw [op, nI_clamp (n := rest.length * 4 + cp_ra (h_cells, b_bodyLength, b_codeOp, b_codeA, b_codeB) A) (by omega)]
        rw [nI_clamp (n := rest.length * 4 + b) (by omega), hva ra4, hvb b hb eb]
        have in7 : vp_in (nI (rest.length * 4 + cp_ra (h_cells, b_bodyLength, b_codeOp, b_codeA, b_codeB) A)) 480 := vp_in_nI (by omega) (by decide)
        have in8 : vp_in (nI (rest.length * 4 + b)) 480 := vp_in_nI (by omega) (by decide)
        refine br_f (by decide) (br_f (by decide) (br_f (by decide) (br_f (by decide) (br_t rfl (And.intro in7 (And.intro in8 (And.intro in7 (nm_e ?_))))))))
        exact F _ ra4 rfl
      · obtain ⟨ra4, era⟩ := i7 (by rw [op]; decide)
        have era' : b_codeA (A.2.1 * 16 + A.2.2.2.1) = nI (cp_ra (h_cells, b_bodyLength, b_codeOp, b_codeA, b_codeB) A) := era
        obtain ⟨b, hb, eb⟩ := i9 (by rw [op]; decide) (by rw [op]; decide) (by rw [op]; decide)
        refine nm_r (e7 _ era') ?_
        refine nm_r (e8 b eb) ?_
        rw [op, nI_clamp (n := rest.length * 4 + cp_ra (h_cells, b_bodyLength, b_codeOp, b_codeA, b_codeB) A) (by omega)]
        rw [nI_clamp (n := rest.length * 4 + b) (by omega), hva ra4, hvb b hb eb]
        have in7 : vp_in (nI (rest.length * 4 + cp_ra (h_cells, b_bodyLength, b_codeOp, b_codeA, b_codeB) A)) 480 := vp_in_nI (by omega) (by decide)
        have in8 : vp_in (nI (rest.length * 4 + b)) 480 := vp_in_nI (by omega) (by decide)
        refine br_f (by decide) (br_f (by decide) (br_f (by decide) (br_f (by decide) (br_f (by decide) (br_t rfl (And.intro in7 (And.intro in8 (br_t hle (And.intro in7 (nm_e ?_))))))))))
        exact F _ ra4 rfl
      · obtain ⟨ra4, era⟩ := i7 (by rw [op]; decide)
        have era' : b_codeA (A.2.1 * 16 + A.2.2.2.1) = nI (cp_ra (h_cells, b_bodyLength, b_codeOp, b_codeA, b_codeB) A) := era
        obtain ⟨b, hb, eb⟩ := i9 (by rw [op]; decide) (by rw [op]; decide) (by rw [op]; decide)
        refine nm_r (e7 _ era') ?_
        refine nm_r (e8 b eb) ?_
        rw [op, nI_clamp (n := rest.length * 4 + cp_ra (h_cells, b_bodyLength, b_codeOp, b_codeA, b_codeB) A) (by omega)]
        rw [nI_clamp (n := rest.length * 4 + b) (by omega), hva ra4, hvb b hb eb]
        have in7 : vp_in (nI (rest.length * 4 + cp_ra (h_cells, b_bodyLength, b_codeOp, b_codeA, b_codeB) A)) 480 := vp_in_nI (by omega) (by decide)
        have in8 : vp_in (nI (rest.length * 4 + b)) 480 := vp_in_nI (by omega) (by decide)
        refine br_f (by decide) (br_f (by decide) (br_f (by decide) (br_f (by decide) (br_f (by decide) (br_t rfl (And.intro in7 (And.intro in8 (br_f hle (And.intro in7 (nm_e ?_))))))))))
        exact F _ ra4 rfl
      · obtain ⟨ra4, era⟩ := i7 (by rw [op]; decide)
        have era' : b_codeA (A.2.1 * 16 + A.2.2.2.1) = nI (cp_ra (h_cells, b_bodyLength, b_codeOp, b_codeA, b_codeB) A) := era
        refine nm_r (e7 _ era') ?_
        refine nm_e ?_
        rw [op, nI_clamp (n := rest.length * 4 + cp_ra (h_cells, b_bodyLength, b_codeOp, b_codeA, b_codeB) A) (by omega)]
        rw [hva ra4]
        have in7 : vp_in (nI (rest.length * 4 + cp_ra (h_cells, b_bodyLength, b_codeOp, b_codeA, b_codeB) A)) 480 := vp_in_nI (by omega) (by decide)
        refine br_f (by decide) (br_f (by decide) (br_f (by decide) (br_f (by decide) (br_f (by decide) (br_f (by decide) (br_t rfl (And.intro in7 (And.intro in7 (nm_e ?_)))))))))
        exact F _ ra4 rfl
      · obtain ⟨ra4, era⟩ := i7 (by rw [op]; decide)
        have era' : b_codeA (A.2.1 * 16 + A.2.2.2.1) = nI (cp_ra (h_cells, b_bodyLength, b_codeOp, b_codeA, b_codeB) A) := era
        obtain ⟨b, hb, eb⟩ := i8 op
        refine nm_r (e7 _ era') ?_
        refine nm_e ?_
        rw [op, nI_clamp (n := rest.length * 4 + cp_ra (h_cells, b_bodyLength, b_codeOp, b_codeA, b_codeB) A) (by omega)]
        rw [hva ra4]
        have in7 : vp_in (nI (rest.length * 4 + cp_ra (h_cells, b_bodyLength, b_codeOp, b_codeA, b_codeB) A)) 480 := vp_in_nI (by omega) (by decide)
        refine br_f (by decide) (br_f (by decide) (br_f (by decide) (br_f (by decide) (br_f (by decide) (br_f (by decide) (br_f (by decide) (br_t rfl (And.intro in7 (br_t hle (And.intro ind (nm_e ?_)))))))))))
        refine cp_yfin (p := A.2.2.2.1 + 1 + b) (r := A.2.2.2.2) hY0 ?_ (by omega) y6 (fun i hi => ⟨by rw [pk_un (by omega)]; exact onxo i hi, rfl⟩) (fun u_entries u_depth w_kinds w_subjects w_values w_store w_openFunction w_openArg w_openNext w_regs h => K1 u_entries u_depth w_kinds w_subjects w_values w_store w_openFunction w_openArg w_openNext w_regs n8 (by rw [eb, nI_clamp (by omega)]; exact h))
        rw [pk_us, eb, nI_add]
      · obtain ⟨ra4, era⟩ := i7 (by rw [op]; decide)
        have era' : b_codeA (A.2.1 * 16 + A.2.2.2.1) = nI (cp_ra (h_cells, b_bodyLength, b_codeOp, b_codeA, b_codeB) A) := era
        obtain ⟨b, hb, eb⟩ := i8 op
        refine nm_r (e7 _ era') ?_
        refine nm_e ?_
        rw [op, nI_clamp (n := rest.length * 4 + cp_ra (h_cells, b_bodyLength, b_codeOp, b_codeA, b_codeB) A) (by omega)]
        rw [hva ra4]
        have in7 : vp_in (nI (rest.length * 4 + cp_ra (h_cells, b_bodyLength, b_codeOp, b_codeA, b_codeB) A)) 480 := vp_in_nI (by omega) (by decide)
        refine br_f (by decide) (br_f (by decide) (br_f (by decide) (br_f (by decide) (br_f (by decide) (br_f (by decide) (br_f (by decide) (br_t rfl (And.intro in7 (br_f hle ?_)))))))))
        exact cp_yfin (p := A.2.2.2.1 + 1) (r := A.2.2.2.2) hY0 pk_us (by omega) y6 (fun i hi => ⟨onxo i hi, rfl⟩) (fun u_entries u_depth w_kinds w_subjects w_values w_store w_openFunction w_openArg w_openNext w_regs h => K1 u_entries u_depth w_kinds w_subjects w_values w_store w_openFunction w_openArg w_openNext w_regs n8 h)
    · obtain ⟨rfl, rfl⟩ := List.cons.inj eA
      rcases hOC with ⟨_, op, gk, gs, go, gp, gsn, rfl⟩ | ⟨_, op, gk, gs, gv, go, rfl⟩ | ⟨hx, _⟩ | ⟨_, op, gk, gs, gv, go, rfl⟩
      · -- READ
        obtain ⟨ra4, era⟩ := i7 (by rw [op]; decide)
        have era' : b_codeA (A.2.1 * 16 + A.2.2.2.1) = nI (cp_ra (h_cells, b_bodyLength, b_codeOp, b_codeA, b_codeB) A) := era
        obtain ⟨b, hb, eb⟩ := i9 (by rw [op]; decide) (by rw [op]; decide) (by rw [op]; decide)
        refine nm_r (e7 _ era') (nm_r (e8 b eb) ?_)
        rw [op, nI_clamp (n := rest.length * 4 + cp_ra (h_cells, b_bodyLength, b_codeOp, b_codeA, b_codeB) A) (by omega), nI_clamp (n := rest.length * 4 + b) (by omega), hvb b hb eb]
        obtain ⟨c1, c2⟩ := cp_ad_nI n2 n3 (cp_vb (h_cells, b_bodyLength, b_codeOp, b_codeA, b_codeB) A)
        rw [← n1, ← gs] at c1 c2
        refine br_f (by decide) (br_f (by decide) (br_f (by decide) (br_f (by decide) (br_f (by decide) (br_f (by decide) (br_f (by decide) (br_f (by decide) (br_t rfl (And.intro (vp_in_nI (by omega) (by decide)) ?_)))))))))
        refine cp_yaddress (by rw [n1]; exact nI_ne0 (by omega) (by omega)) ?_
        rw [c1, nI_clamp (n := cp_s g) (by omega)]
        refine And.intro (vp_in_nI (by omega) (by decide)) (nm_r (e' := cp_v g) (by rw [hS _ c2, hrd gk]) (And.intro (vp_in_nI (by omega) (by decide)) (nm_e ?_)))
        refine cp_yappend n7 n5 n6 n8 (fun hlt => And.intro rfl ?_) (fun he => And.intro rfl ?_)
        · refine K1 _ _ _ _ _ _ _ _ _ _ (by rw [snap]; omega) ⟨⟨n1, n2, n3, n4, n5, n6, by rw [snap], by rw [snap]; omega, n9, ?_⟩, cp_Tr_snoc hT gk.symm rfl rfl, fun c hc => ?_, ⟨y1, y2, pk_us, by show A.2.2.2.1 + 1 ≤ 63; omega, y5, ?_, ?_⟩, hC⟩
          · rw [snap]; show rest.length + 1 ≤ _; omega
          · rw [cp_sto_skip (by rw [gk]; intro h; exact absurd h.1 (by decide))]; exact hS c hc
          · rw [cp_rg_upd ra4, y6]; rfl
          · exact cp_YR_fr rest (fun i hi => ⟨rfl, rfl, onxo i hi, cp_rg_ne ra4 (by omega)⟩) y7
        · exact K0 _ _ _ _ _ _ _ _ _ _ (by rw [snap]; omega)
      · -- WRITE
        obtain ⟨ra4, era⟩ := i7 (by rw [op]; decide)
        have era' : b_codeA (A.2.1 * 16 + A.2.2.2.1) = nI (cp_ra (h_cells, b_bodyLength, b_codeOp, b_codeA, b_codeB) A) := era
        obtain ⟨b, hb, eb⟩ := i9 (by rw [op]; decide) (by rw [op]; decide) (by rw [op]; decide)
        refine nm_r (e7 _ era') (nm_r (e8 b eb) ?_)
        rw [op, nI_clamp (n := rest.length * 4 + cp_ra (h_cells, b_bodyLength, b_codeOp, b_codeA, b_codeB) A) (by omega), nI_clamp (n := rest.length * 4 + b) (by omega), hva ra4, hvb b hb eb, ← gv]
        obtain ⟨c1, c2⟩ := cp_ad_nI n2 n3 (cp_vb (h_cells, b_bodyLength, b_codeOp, b_codeA, b_codeB) A)
        rw [← n1, ← gs] at c1 c2
        refine br_f (by decide) (br_f (by decide) (br_f (by decide) (br_f (by decide) (br_f (by decide) (br_f (by decide) (br_f (by decide) (br_f (by decide) (br_f (by decide) (br_t rfl (And.intro (vp_in_nI (by omega) (by decide)) ?_))))))))))
        refine cp_yaddress (by rw [n1]; exact nI_ne0 (by omega) (by omega)) ?_
        rw [c1, nI_clamp (n := cp_s g) (by omega)]
        refine And.intro (vp_in_nI (by omega) (by decide)) (nm_e (And.intro (vp_in_nI (by omega) (by decide)) (nm_e ?_)))
        refine cp_yappend n7 n5 n6 n8 (fun hlt => And.intro rfl ?_) (fun he => And.intro rfl ?_)
        · refine K1 _ _ _ _ _ _ _ _ _ _ (by rw [snap]; omega) ⟨⟨n1, n2, n3, n4, n5, n6, by rw [snap], by rw [snap]; omega, n9, ?_⟩, cp_Tr_snoc hT gk.symm rfl rfl, fun c hc => ?_, ⟨y1, y2, pk_us, by show A.2.2.2.1 + 1 ≤ 63; omega, y5, y6, ?_⟩, hC⟩
          · rw [snap]; show rest.length + 1 ≤ _; omega
          · by_cases e : c = cp_s g
            · rw [e, pk_us, cp_sto_w gk]
            · rw [pk_un e, cp_sto_skip (fun h => e h.2.symm)]; exact hS c hc
          · exact cp_YR_fr rest (fun i hi => ⟨rfl, rfl, onxo i hi, rfl⟩) y7
        · exact K0 _ _ _ _ _ _ _ _ _ _ (by rw [snap]; omega)
      · omega
      · -- CALL
        obtain ⟨raf, era⟩ := i6 op
        have era' : b_codeA (A.2.1 * 16 + A.2.2.2.1) = nI (cp_ra (h_cells, b_bodyLength, b_codeOp, b_codeA, b_codeB) A) := era
        obtain ⟨b, hb, eb⟩ := i9 (by rw [op]; decide) (by rw [op]; decide) (by rw [op]; decide)
        refine nm_r (e7 _ era') (nm_r (e8 b eb) ?_)
        rw [op, nI_clamp (n := rest.length * 4 + b) (by omega), hvb b hb eb, era', ← gs, ← gv]
        have hYn : cp_Yc cN fN lN base (cp_nx A :: rest) T h_cells h_functions h_limit h_state h_entries h_depth b_codeOp b_codeA b_codeB b_bodyLength b_baseValue b_settledValue b_outputValue b_changedMark b_kinds b_subjects b_values b_store b_openFunction b_openArg (upd b_openNext rest.length (nI (A.2.2.2.1 + 1))) b_regs :=
          ⟨⟨n1, n2, n3, n4, n5, n6, n7, n8, n9, n10⟩, hT, hS, ⟨y1, y2, pk_us, by show A.2.2.2.1 + 1 ≤ 63; omega, y5, y6, cp_YR_fr rest (fun i hi => ⟨rfl, rfl, onxo i hi, rfl⟩) y7⟩, hC⟩
        refine br_f (by decide) (br_f (by decide) (br_f (by decide) (br_f (by decide) (br_f (by decide) (br_f (by decide) (br_f (by decide) (br_f (by decide) (br_f (by decide) (br_f (by decide) (br_t rfl (And.intro (vp_in_nI (by omega) (by decide)) ?_)))))))))))
        refine cp_yenter hYn gk (by rw [gs]; exact raf) ?_ ?_
        · intro u_entries u_depth w_kinds w_subjects w_values w_store w_openFunction w_openArg w_openNext w_regs hlt h
          exact And.intro rfl (K1 u_entries u_depth w_kinds w_subjects w_values w_store w_openFunction w_openArg w_openNext w_regs (by rw [snap]; omega) h)
        · intro u_entries u_depth w_kinds w_subjects w_values w_store w_openFunction w_openArg w_openNext w_regs he
          exact And.intro rfl (K0 u_entries u_depth w_kinds w_subjects w_values w_store w_openFunction w_openArg w_openNext w_regs (by rw [snap]; omega))
  · -- LEAVE
    refine br_f (nI_nlt (by omega) (by omega)) (And.intro ind ?_)
    rw [y2]
    rcases hM with ⟨⟨A1, A', R, eA, hlt, hs, rfl⟩, rfl⟩ | ⟨g, ⟨A1, R, eA, hOC⟩, hrd, rfl⟩
    · obtain ⟨rfl, rfl⟩ := List.cons.inj eA
      exact absurd hlt hpc
    · obtain ⟨rfl, rfl⟩ := List.cons.inj eA
      rcases hOC with ⟨hx, _⟩ | ⟨hx, _⟩ | ⟨_, gk, gs, gv, go, rfl⟩ | ⟨hx, _⟩
      · exact absurd hx hpc
      · exact absurd hx hpc
      · rw [← gs, ← gv]
        refine cp_yappend n7 n5 n6 n8 (fun hlt => And.intro rfl ?_) (fun he => And.intro rfl ?_)
        · refine K1 _ _ _ _ _ _ _ _ _ _ (by rw [snap]; omega) ⟨⟨n1, n2, n3, n4, n5, n6, by rw [snap], by rw [snap]; omega, rfl, ?_⟩, cp_Tr_snoc hT gk.symm rfl rfl, fun c hc => ?_, y7, hC⟩
          · rw [snap]; omega
          · rw [cp_sto_skip (by rw [gk]; intro h; exact absurd h.1 (by decide))]; exact hS c hc
        · exact K0 _ _ _ _ _ _ _ _ _ _ (by rw [snap]; omega)
      · exact absurd hx hpc
end
end
section
/-! ===== evaluate ===== -/
def cp_pot : List cp_F → Nat
  | [] => 0
  | A :: st => (17 - min A.2.2.2.1 16) + cp_pot st
theorem cp_sil_pc {C : cp_C} {A A' : cp_F} (h : cp_sil C A A') : ∃ q, A'.2.2.2.1 = A.2.2.2.1 + 1 + q := by
  rcases h with ⟨_, rfl⟩ | ⟨_, rfl⟩ | ⟨_, rfl⟩ | ⟨_, rfl⟩ | ⟨_, rfl⟩ | ⟨_, _, rfl⟩ | ⟨_, _, rfl⟩ | ⟨_, rfl⟩ | ⟨_, _, rfl⟩ | ⟨_, _, rfl⟩
  all_goals first | exact ⟨0, rfl⟩ | exact ⟨_, rfl⟩
theorem cp_pot_ms {C : cp_C} {base : Nat → Int32} {st st' : List cp_F} {T T' : List cp_N} (hM : cp_MS C base st T st' T') (hb : ∀ A R, st = A :: R → cp_bz C A.2.1 ≤ 16) : cp_pot st' + 17 * T.length + 1 ≤ cp_pot st + 17 * T'.length := by
  rcases hM with ⟨⟨A, A', R, rfl, hlt, hs, rfl⟩, rfl⟩ | ⟨g, ⟨A, R, rfl, hOC⟩, _, rfl⟩
  · have h16 := hb A R rfl
    obtain ⟨q, e⟩ := cp_sil_pc hs
    show (17 - min A'.2.2.2.1 16) + cp_pot R + 17 * T'.length + 1 ≤ (17 - min A.2.2.2.1 16) + cp_pot R + 17 * T'.length
    rw [e]; omega
  · have h16 := hb A R rfl
    have hl : (T ++ [g]).length = T.length + 1 := by simp
    have e0 : cp_pot (A :: R) = (17 - min A.2.2.2.1 16) + cp_pot R := rfl
    rcases hOC with ⟨hlt, _, _, _, _, _, _, rfl⟩ | ⟨hlt, _, _, _, _, _, rfl⟩ | ⟨_, _, _, _, _, rfl⟩ | ⟨hlt, _, _, _, _, _, rfl⟩
    · have e1 : cp_pot (cp_ps A (A.2.2.2.1 + 1) (upd A.2.2.2.2 (cp_ra C A) (cp_v g)) :: R) = (17 - min (A.2.2.2.1 + 1) 16) + cp_pot R := rfl
      omega
    · have e1 : cp_pot (cp_nx A :: R) = (17 - min (A.2.2.2.1 + 1) 16) + cp_pot R := rfl
      omega
    · omega
    · have e1 : cp_pot (cp_nf g :: cp_nx A :: R) = 17 + ((17 - min (A.2.2.2.1 + 1) 16) + cp_pot R) := rfl
      omega
theorem cp_MS_len {C : cp_C} {base : Nat → Int32} {st st' : List cp_F} {T T' : List cp_N} (hM : cp_MS C base st T st' T') : T.length ≤ T'.length := by
  rcases hM with ⟨_, rfl⟩ | ⟨g, _, _, rfl⟩
  · exact Nat.le_refl _
  · simp
theorem cp_RS_len {C : cp_C} {base : Nat → Int32} : ∀ (n : Nat) (st : List cp_F) (T : List cp_N) (st' : List cp_F) (T' : List cp_N), cp_RS C base n st T st' T' → T.length ≤ T'.length
  | 0, _, _, _, _, h => by rw [h.2]; exact Nat.le_refl _
  | n + 1, _, _, _, _, h => by
    obtain ⟨s1, T1, hm, hr⟩ := h
    exact Nat.le_trans (cp_MS_len hm) (cp_RS_len n _ _ _ _ hr)
section
variable {h_cells h_functions h_limit h_state h_entries h_depth : Int32} {b_codeOp b_codeA b_codeB b_bodyLength b_baseValue b_settledValue b_outputValue b_changedMark b_kinds b_subjects b_values b_store b_openFunction b_openArg b_openNext b_regs : Nat → Int32}
theorem cp_yloop {post : Int32 → SY → Prop} {cN fN lN : Nat} {base : Nat → Int32} {st' : List cp_F} {T' : List cp_N} (hor : (st' = [] ∧ T'.length ≤ lN) ∨ lN < T'.length)
    (K1 : ∀ (u_entries u_depth : Int32) (w_kinds w_subjects w_values w_store w_openFunction w_openArg w_openNext w_regs : Nat → Int32), st' = [] → T'.length ≤ lN → cp_Yc cN fN lN base [] T' h_cells h_functions h_limit h_state u_entries u_depth b_codeOp b_codeA b_codeB b_bodyLength b_baseValue b_settledValue b_outputValue b_changedMark w_kinds w_subjects w_values w_store w_openFunction w_openArg w_openNext w_regs → post 1 (h_cells, h_functions, h_limit, h_state, u_entries, u_depth, b_codeOp, b_codeA, b_codeB, b_bodyLength, b_baseValue, b_settledValue, b_outputValue, b_changedMark, w_kinds, w_subjects, w_values, w_store, w_openFunction, w_openArg, w_openNext, w_regs)) (K0 : ∀ (u_entries u_depth : Int32) (w_kinds w_subjects w_values w_store w_openFunction w_openArg w_openNext w_regs : Nat → Int32), lN < T'.length → post 0 (h_cells, h_functions, h_limit, h_state, u_entries, u_depth, b_codeOp, b_codeA, b_codeB, b_bodyLength, b_baseValue, b_settledValue, b_outputValue, b_changedMark, w_kinds, w_subjects, w_values, w_store, w_openFunction, w_openArg, w_openNext, w_regs)) :
    ∀ (n step m : Nat) (st : List cp_F) (T : List cp_N) (h_entries h_depth : Int32) (b_kinds b_subjects b_values b_store b_openFunction b_openArg b_openNext b_regs : Nat → Int32), cp_RS (h_cells, b_bodyLength, b_codeOp, b_codeA, b_codeB) base n st T st' T' → cp_Yc cN fN lN base st T h_cells h_functions h_limit h_state h_entries h_depth b_codeOp b_codeA b_codeB b_bodyLength b_baseValue b_settledValue b_outputValue b_changedMark b_kinds b_subjects b_values b_store b_openFunction b_openArg b_openNext b_regs → step + cp_pot st ≤ 17 * T.length → 2100 < m + step → wY_evaluate_47 post m 1 (nI step) h_cells h_functions h_limit h_state h_entries h_depth b_codeOp b_codeA b_codeB b_bodyLength b_baseValue b_settledValue b_outputValue b_changedMark b_kinds b_subjects b_values b_store b_openFunction b_openArg b_openNext b_regs := by
  intro n
  induction n with
  | zero =>
    intro step m st T h_entries h_depth b_kinds b_subjects b_values b_store b_openFunction b_openArg b_openNext b_regs hr hY hp hm
    obtain ⟨rfl, rfl⟩ := hr
    have hTl := hY.1.2.2.2.2.2.2.2.1
    have hlN := hY.1.2.2.2.2.2.1
    obtain ⟨m, rfl⟩ : ∃ m', m = m' + 1 := ⟨m - 1, by omega⟩
    rcases hor with ⟨rfl, hl⟩ | h
    · have hd : h_depth = nI 0 := hY.1.2.2.2.2.2.2.2.2.1
      refine br_f (nI_ge (b := 2100) (by omega) (by decide)) (br_f (by decide) (br_t (by rw [hd]; decide) ?_))
      exact br_f (by decide) (br_t (by rw [hd]; rfl) (K1 h_entries h_depth b_kinds b_subjects b_values b_store b_openFunction b_openArg b_openNext b_regs rfl hl hY))
    · omega
  | succ n ih =>
    intro step m st T h_entries h_depth b_kinds b_subjects b_values b_store b_openFunction b_openArg b_openNext b_regs hr hY hp hm
    obtain ⟨s1, T1, hms, hr⟩ := hr
    have hTl := hY.1.2.2.2.2.2.2.2.1
    have hlN := hY.1.2.2.2.2.2.1
    have hst : ∃ A rest, st = A :: rest := by
      rcases hms with ⟨⟨A, _, R, e, _⟩, _⟩ | ⟨g, ⟨A, R, e, _⟩, _⟩
      · exact ⟨A, R, e⟩
      · exact ⟨A, R, e⟩
    obtain ⟨A, rest, rfl⟩ := hst
    have hl : (A :: rest).length = rest.length + 1 := rfl
    have hpo : cp_pot (A :: rest) = (17 - min A.2.2.2.1 16) + cp_pot rest := rfl
    have hdp := hY.1.2.2.2.2.2.2.2.2.1
    have hdl := hY.1.2.2.2.2.2.2.2.2.2
    have hpm := cp_pot_ms hms (fun B R e => by
      obtain ⟨rfl, rfl⟩ := List.cons.inj e
      exact (hY.2.2.2.2 _ hY.2.2.2.1.2.2.2.2.1).2.1)
    obtain ⟨m, rfl⟩ : ∃ m', m = m' + 1 := ⟨m - 1, by omega⟩
    refine br_f (nI_ge (b := 2100) (by omega) (by decide)) (br_f (by decide) (br_f (by rw [hdp]; exact nI_nle (by omega) (by omega)) ?_))
    refine cp_ystep hY hms ?_ ?_
    · intro u_entries u_depth w_kinds w_subjects w_values w_store w_openFunction w_openArg w_openNext w_regs hle h
      refine nm_r (nI_1 _) ?_
      exact ih (step + 1) m s1 T1 u_entries u_depth w_kinds w_subjects w_values w_store w_openFunction w_openArg w_openNext w_regs hr h (by omega) (by omega)
    · intro u_entries u_depth w_kinds w_subjects w_values w_store w_openFunction w_openArg w_openNext w_regs hlt
      refine nm_r (nI_1 _) ?_
      have := cp_RS_len _ _ _ _ _ hr
      obtain ⟨m, rfl⟩ : ∃ m', m = m' + 1 := ⟨m - 1, by omega⟩
      exact br_f (nI_ge (b := 2100) (by omega) (by decide)) (br_t rfl (br_t rfl (K0 u_entries u_depth w_kinds w_subjects w_values w_store w_openFunction w_openArg w_openNext w_regs (by omega))))
theorem cp_ystore {post : Int32 → SY → Prop} {arg : Int32} {cN : Nat} (hc : h_cells = nI cN) (h16 : cN ≤ 16)
    (K : ∀ st', (∀ c, c < cN → st' c = b_baseValue c) → wpY_enter (fun r_2 u => match u with | (h_cells, h_functions, h_limit, h_state, h_entries, h_depth, b_codeOp, b_codeA, b_codeB, b_bodyLength, b_baseValue, b_settledValue, b_outputValue, b_changedMark, b_kinds, b_subjects, b_values, b_store, b_openFunction, b_openArg, b_openNext, b_regs) => (∃ n47 : Nat, wY_evaluate_47 post n47 r_2 0 h_cells h_functions h_limit h_state h_entries h_depth b_codeOp b_codeA b_codeB b_bodyLength b_baseValue b_settledValue b_outputValue b_changedMark b_kinds b_subjects b_values b_store b_openFunction b_openArg b_openNext b_regs)) (h_cells, h_functions, h_limit, h_state, 0, 0, b_codeOp, b_codeA, b_codeB, b_bodyLength, b_baseValue, b_settledValue, b_outputValue, b_changedMark, b_kinds, b_subjects, b_values, st', b_openFunction, b_openArg, b_openNext, b_regs) 0 arg) :
    ∀ (k i m : Nat) (so : Nat → Int32), i + k = cN → k < m → (∀ c, c < i → so c = b_baseValue c) → wY_evaluate_2 post arg h_cells h_functions h_limit h_state h_entries h_depth m (nI i) b_codeOp b_codeA b_codeB b_bodyLength b_baseValue b_settledValue b_outputValue b_changedMark b_kinds b_subjects b_values so b_openFunction b_openArg b_openNext b_regs := by
  intro k
  induction k with
  | zero =>
    intro i m so hi hm hs
    obtain ⟨m, rfl⟩ : ∃ m', m = m' + 1 := ⟨m - 1, by omega⟩
    obtain rfl : i = cN := by omega
    exact br_t (by rw [hc]; exact Int32.le_refl _) (K so hs)
  | succ k ih =>
    intro i m so hi hm hs
    obtain ⟨m, rfl⟩ : ∃ m', m = m' + 1 := ⟨m - 1, by omega⟩
    have ein : vp_in (nI i) 16 := vp_in_nI (by omega) (by decide)
    refine br_f (by rw [hc]; exact nI_ge (by omega) (by omega)) (And.intro ein (And.intro ein ?_))
    rw [nI_clamp (n := i) (by omega)]
    refine nm_e (nm_r (nI_1 _) ?_)
    refine ih (i + 1) m _ (by omega) (by omega) (fun c h => ?_)
    by_cases e : c = i
    · rw [e, pk_us]
    · rw [pk_un e]; exact hs c (by omega)
theorem cp_yeval {post : Int32 → SY → Prop} {arg : Int32} {cN fN lN n : Nat} {g0 : cp_N} {st' : List cp_F} {T' : List cp_N} (hc : h_cells = nI cN) (h2 : 2 ≤ cN) (h16 : cN ≤ 16) (hf1 : 0 < fN) (hf : fN ≤ 6) (hl : h_limit = nI lN) (hl1 : 0 < lN) (hlN : lN ≤ 120) (hC : cp_CW (h_cells, b_bodyLength, b_codeOp, b_codeA, b_codeB) fN)
    (hk : cp_k g0 = 0) (hs : cp_s g0 = 0) (hv : cp_v g0 = arg) (hr : cp_RS (h_cells, b_bodyLength, b_codeOp, b_codeA, b_codeB) b_baseValue n [cp_nf g0] [g0] st' T') (hor : (st' = [] ∧ T'.length ≤ lN) ∨ lN < T'.length)
    (K1 : ∀ (u_entries u_depth : Int32) (w_kinds w_subjects w_values w_store w_openFunction w_openArg w_openNext w_regs : Nat → Int32), st' = [] → T'.length ≤ lN → cp_Yc cN fN lN b_baseValue [] T' h_cells h_functions h_limit h_state u_entries u_depth b_codeOp b_codeA b_codeB b_bodyLength b_baseValue b_settledValue b_outputValue b_changedMark w_kinds w_subjects w_values w_store w_openFunction w_openArg w_openNext w_regs → post 1 (h_cells, h_functions, h_limit, h_state, u_entries, u_depth, b_codeOp, b_codeA, b_codeB, b_bodyLength, b_baseValue, b_settledValue, b_outputValue, b_changedMark, w_kinds, w_subjects, w_values, w_store, w_openFunction, w_openArg, w_openNext, w_regs)) (K0 : ∀ (u_entries u_depth : Int32) (w_kinds w_subjects w_values w_store w_openFunction w_openArg w_openNext w_regs : Nat → Int32), lN < T'.length → post 0 (h_cells, h_functions, h_limit, h_state, u_entries, u_depth, b_codeOp, b_codeA, b_codeB, b_bodyLength, b_baseValue, b_settledValue, b_outputValue, b_changedMark, w_kinds, w_subjects, w_values, w_store, w_openFunction, w_openArg, w_openNext, w_regs)) : wpY_evaluate post (h_cells, h_functions, h_limit, h_state, h_entries, h_depth, b_codeOp, b_codeA, b_codeB, b_bodyLength, b_baseValue, b_settledValue, b_outputValue, b_changedMark, b_kinds, b_subjects, b_values, b_store, b_openFunction, b_openArg, b_openNext, b_regs) arg := by
  refine ⟨cN + 1, ?_⟩
  refine cp_ystore (cN := cN) hc h16 ?_ cN 0 (cN + 1) b_store (by omega) (by omega) (fun c h => by omega)
  intro so hso
  have hY0 : cp_Yc cN fN lN b_baseValue [] [] h_cells h_functions h_limit h_state 0 0 b_codeOp b_codeA b_codeB b_bodyLength b_baseValue b_settledValue b_outputValue b_changedMark b_kinds b_subjects b_values so b_openFunction b_openArg b_openNext b_regs :=
    ⟨⟨hc, h2, h16, hf, hl, hlN, rfl, Nat.zero_le _, rfl, Nat.zero_le _⟩, trivial, fun c h => hso c h, trivial, hC⟩
  have := cp_yenter (post := fun r_2 u => match u with | (h_cells, h_functions, h_limit, h_state, h_entries, h_depth, b_codeOp, b_codeA, b_codeB, b_bodyLength, b_baseValue, b_settledValue, b_outputValue, b_changedMark, b_kinds, b_subjects, b_values, b_store, b_openFunction, b_openArg, b_openNext, b_regs) => (∃ n47 : Nat, wY_evaluate_47 post n47 r_2 0 h_cells h_functions h_limit h_state h_entries h_depth b_codeOp b_codeA b_codeB b_bodyLength b_baseValue b_settledValue b_outputValue b_changedMark b_kinds b_subjects b_values b_store b_openFunction b_openArg b_openNext b_regs)) hY0 hk (by omega) ?_ ?_
  · rw [hs, hv] at this
    exact this
  · intro u_entries u_depth w_kinds w_subjects w_values w_store w_openFunction w_openArg w_openNext w_regs hlt h
    refine ⟨2101, ?_⟩
    exact cp_yloop hor K1 K0 n 0 2101 [cp_nf g0] [g0] u_entries u_depth w_kinds w_subjects w_values w_store w_openFunction w_openArg w_openNext w_regs hr h (by show 0 + (17 + 0) ≤ 17 * 1; omega) (by omega)
  · intro u_entries u_depth w_kinds w_subjects w_values w_store w_openFunction w_openArg w_openNext w_regs he
    have : ([] : List cp_N).length = 0 := rfl
    omega
end
end
section
/-! ===== clearTrace, the start of a run ===== -/
section
variable {f_cells f_functions f_limit f_status f_freeCount f_first f_size f_heapSize f_depth f_cur f_inserted f_overflowed : Int32} {a_bodySizes a_opAt a_aAt a_bAt a_baseValue a_settledValue a_outputValue a_changedMark a_cellHead a_cellTail a_kindOf a_subjectOf a_valueOf a_labelOf a_nextOf a_ownerOf a_leaveOf a_pcOf a_snapshot a_cellPrev a_cellNext a_sourceOf a_alive a_queued a_free a_nodeAt a_indexOf a_heap a_frameEnter a_framePc a_frameZone a_frameWait a_frameRegs : Nat → Int32}
theorem cp_clear49 {post : SX → Prop} (K : ∀ hd' tl', (∀ c, c < 16 → hd' c = -1 ∧ tl' c = -1) → post (f_cells, f_functions, f_limit, f_status, f_freeCount, -1, 0, 0, 0, -1, 0, 0, a_bodySizes, a_opAt, a_aAt, a_bAt, a_baseValue, a_settledValue, a_outputValue, a_changedMark, hd', tl', a_kindOf, a_subjectOf, a_valueOf, a_labelOf, a_nextOf, a_ownerOf, a_leaveOf, a_pcOf, a_snapshot, a_cellPrev, a_cellNext, a_sourceOf, a_alive, a_queued, a_free, a_nodeAt, a_indexOf, a_heap, a_frameEnter, a_framePc, a_frameZone, a_frameWait, a_frameRegs)) :
    ∀ (k i m : Nat) (hd tl : Nat → Int32), i + k = 16 → k < m → (∀ c, c < i → hd c = -1 ∧ tl c = -1) → wX_clearTrace_49 post f_cells f_functions f_limit f_status f_freeCount f_first f_size f_heapSize f_depth f_cur f_inserted f_overflowed m (nI i) a_bodySizes a_opAt a_aAt a_bAt a_baseValue a_settledValue a_outputValue a_changedMark hd tl a_kindOf a_subjectOf a_valueOf a_labelOf a_nextOf a_ownerOf a_leaveOf a_pcOf a_snapshot a_cellPrev a_cellNext a_sourceOf a_alive a_queued a_free a_nodeAt a_indexOf a_heap a_frameEnter a_framePc a_frameZone a_frameWait a_frameRegs := by
  intro k
  induction k with
  | zero =>
    intro i m hd tl hi hm hs
    obtain ⟨m, rfl⟩ : ∃ m', m = m' + 1 := ⟨m - 1, by omega⟩
    obtain rfl : i = 16 := by omega
    exact br_t (by decide) (K hd tl hs)
  | succ k ih =>
    intro i m hd tl hi hm hs
    obtain ⟨m, rfl⟩ : ∃ m', m = m' + 1 := ⟨m - 1, by omega⟩
    have ein : vp_in (nI i) 16 := vp_in_nI (by omega) (by decide)
    refine br_f (nI_ge (b := 16) (by omega) (by decide)) ?_
    rw [nI_clamp (n := i) (by omega)]
    refine And.intro ein (nm_e (And.intro ein (nm_e (nm_r (nI_1 _) ?_))))
    refine ih (i + 1) m _ _ (by omega) (by omega) (fun c h => ?_)
    by_cases e : c = i
    · rw [e, pk_us, pk_us]; exact ⟨rfl, rfl⟩
    · rw [pk_un e, pk_un e]; exact hs c (by omega)
theorem cp_clear2 {post : SX → Prop} (K : ∀ al' qd' fr' hd' tl', (∀ n, n < 256 → al' n = 0 ∧ qd' n = 0 ∧ fr' n = nI (255 - n)) → (∀ c, c < 16 → hd' c = -1 ∧ tl' c = -1) → post (f_cells, f_functions, f_limit, f_status, 256, -1, 0, 0, 0, -1, 0, 0, a_bodySizes, a_opAt, a_aAt, a_bAt, a_baseValue, a_settledValue, a_outputValue, a_changedMark, hd', tl', a_kindOf, a_subjectOf, a_valueOf, a_labelOf, a_nextOf, a_ownerOf, a_leaveOf, a_pcOf, a_snapshot, a_cellPrev, a_cellNext, a_sourceOf, al', qd', fr', a_nodeAt, a_indexOf, a_heap, a_frameEnter, a_framePc, a_frameZone, a_frameWait, a_frameRegs)) :
    ∀ (k i m : Nat) (al qd fr : Nat → Int32), i + k = 256 → k < m → (∀ n, n < i → al n = 0 ∧ qd n = 0 ∧ fr n = nI (255 - n)) → wX_clearTrace_2 post f_cells f_functions f_limit f_status f_freeCount f_first f_size f_heapSize f_depth f_cur f_inserted f_overflowed m (nI i) a_bodySizes a_opAt a_aAt a_bAt a_baseValue a_settledValue a_outputValue a_changedMark a_cellHead a_cellTail a_kindOf a_subjectOf a_valueOf a_labelOf a_nextOf a_ownerOf a_leaveOf a_pcOf a_snapshot a_cellPrev a_cellNext a_sourceOf al qd fr a_nodeAt a_indexOf a_heap a_frameEnter a_framePc a_frameZone a_frameWait a_frameRegs := by
  intro k
  induction k with
  | zero =>
    intro i m al qd fr hi hm hs
    obtain ⟨m, rfl⟩ : ∃ m', m = m' + 1 := ⟨m - 1, by omega⟩
    obtain rfl : i = 256 := by omega
    refine br_t (by decide) ⟨17, ?_⟩
    exact cp_clear49 (fun hd' tl' h => K al qd fr hd' tl' hs h) 16 0 17 a_cellHead a_cellTail (by omega) (by omega) (fun c h => by omega)
  | succ k ih =>
    intro i m al qd fr hi hm hs
    obtain ⟨m, rfl⟩ : ∃ m', m = m' + 1 := ⟨m - 1, by omega⟩
    have ein : vp_in (nI i) 256 := vp_in_nI (by omega) (by decide)
    have e255 : (255 : Int32) - nI i = nI (255 - i) := pk_sub (a := 255) (by omega)
    refine br_f (nI_ge (b := 256) (by omega) (by decide)) ?_
    rw [nI_clamp (n := i) (by omega), cp_nar0, e255]
    refine And.intro ein (nm_e (And.intro ein (nm_e (And.intro ein (nm_e (nm_r (nI_1 _) ?_))))))
    refine ih (i + 1) m _ _ _ (by omega) (by omega) (fun c h => ?_)
    by_cases e : c = i
    · rw [e, pk_us, pk_us, pk_us]; exact ⟨rfl, rfl, rfl⟩
    · rw [pk_un e, pk_un e, pk_un e]; exact hs c (by omega)
theorem cp_clear {post : SX → Prop} (K : ∀ al' qd' fr' hd' tl', (∀ n, n < 256 → al' n = 0 ∧ qd' n = 0 ∧ fr' n = nI (255 - n)) → (∀ c, c < 16 → hd' c = -1 ∧ tl' c = -1) → post (f_cells, f_functions, f_limit, f_status, 256, -1, 0, 0, 0, -1, 0, 0, a_bodySizes, a_opAt, a_aAt, a_bAt, a_baseValue, a_settledValue, a_outputValue, a_changedMark, hd', tl', a_kindOf, a_subjectOf, a_valueOf, a_labelOf, a_nextOf, a_ownerOf, a_leaveOf, a_pcOf, a_snapshot, a_cellPrev, a_cellNext, a_sourceOf, al', qd', fr', a_nodeAt, a_indexOf, a_heap, a_frameEnter, a_framePc, a_frameZone, a_frameWait, a_frameRegs)) :
    wpX_clearTrace post (f_cells, f_functions, f_limit, f_status, f_freeCount, f_first, f_size, f_heapSize, f_depth, f_cur, f_inserted, f_overflowed, a_bodySizes, a_opAt, a_aAt, a_bAt, a_baseValue, a_settledValue, a_outputValue, a_changedMark, a_cellHead, a_cellTail, a_kindOf, a_subjectOf, a_valueOf, a_labelOf, a_nextOf, a_ownerOf, a_leaveOf, a_pcOf, a_snapshot, a_cellPrev, a_cellNext, a_sourceOf, a_alive, a_queued, a_free, a_nodeAt, a_indexOf, a_heap, a_frameEnter, a_framePc, a_frameZone, a_frameWait, a_frameRegs) := ⟨257, cp_clear2 K 256 0 257 a_alive a_queued a_free (by omega) (by omega) (fun c h => by omega)⟩
/-- the first activation of a run -/
theorem cp_first {pst : SX → Prop} {cN fN lN : Nat} {arg : Int32} (hc : f_cells = nI cN) (h2 : 2 ≤ cN) (h16 : cN ≤ 16) (hfn : f_functions = nI fN) (hf1 : 0 < fN) (hf : fN ≤ 6) (hl : f_limit = nI lN) (hl1 : 0 < lN) (hlN : lN ≤ 120) (hC : cp_CW (f_cells, a_bodySizes, a_opAt, a_aAt, a_bAt) fN)
    (hfc : f_freeCount = 256) (hhs : f_heapSize = 0) (hd : f_depth = 0) (hcu : f_cur = -1) (hin : f_inserted = 0) (hov : f_overflowed = 0) (hfr : ∀ n, n < 256 → a_alive n = 0 ∧ a_queued n = 0 ∧ a_free n = nI (255 - n)) (hch : ∀ c, c < 16 → a_cellHead c = -1 ∧ a_cellTail c = -1)
    (K : ∀ (q_freeCount q_first q_heapSize q_depth q_cur q_inserted q_overflowed : Int32) (r_cellHead r_cellTail r_kindOf r_subjectOf r_valueOf r_labelOf r_nextOf r_ownerOf r_leaveOf r_pcOf r_snapshot r_cellPrev r_cellNext r_sourceOf r_alive r_queued r_heap r_frameEnter r_framePc r_frameZone r_frameWait r_frameRegs : Nat → Int32), cp_Sx cN fN lN (0, 0, 0, arg, 0, 0, fun _ => 0) 20000 f_cells f_functions f_limit f_status q_freeCount q_first f_size q_heapSize q_depth q_cur q_inserted q_overflowed a_bodySizes a_opAt a_aAt a_bAt a_baseValue a_settledValue a_outputValue a_changedMark r_cellHead r_cellTail r_kindOf r_subjectOf r_valueOf r_labelOf r_nextOf r_ownerOf r_leaveOf r_pcOf r_snapshot r_cellPrev r_cellNext r_sourceOf r_alive r_queued a_free a_nodeAt a_indexOf r_heap r_frameEnter r_framePc r_frameZone r_frameWait r_frameRegs → pst (f_cells, f_functions, f_limit, f_status, q_freeCount, q_first, f_size, q_heapSize, q_depth, q_cur, q_inserted, q_overflowed, a_bodySizes, a_opAt, a_aAt, a_bAt, a_baseValue, a_settledValue, a_outputValue, a_changedMark, r_cellHead, r_cellTail, r_kindOf, r_subjectOf, r_valueOf, r_labelOf, r_nextOf, r_ownerOf, r_leaveOf, r_pcOf, r_snapshot, r_cellPrev, r_cellNext, r_sourceOf, r_alive, r_queued, a_free, a_nodeAt, a_indexOf, r_heap, r_frameEnter, r_framePc, r_frameZone, r_frameWait, r_frameRegs)) :
    wpX_openActivation pst (f_cells, f_functions, f_limit, f_status, f_freeCount, f_first, f_size, f_heapSize, f_depth, f_cur, f_inserted, f_overflowed, a_bodySizes, a_opAt, a_aAt, a_bAt, a_baseValue, a_settledValue, a_outputValue, a_changedMark, a_cellHead, a_cellTail, a_kindOf, a_subjectOf, a_valueOf, a_labelOf, a_nextOf, a_ownerOf, a_leaveOf, a_pcOf, a_snapshot, a_cellPrev, a_cellNext, a_sourceOf, a_alive, a_queued, a_free, a_nodeAt, a_indexOf, a_heap, a_frameEnter, a_framePc, a_frameZone, a_frameWait, a_frameRegs) 0 arg (-1) := by
  unfold wpX_openActivation
  refine cp_append0 (fc := 255) (ins := 0) (n := 0) (lN := lN) hfc (by decide) hin hl (by omega) hlN (hfr 255 (by decide)).2.2 (by decide) hcu ?_
  rw [cp_upd_same (hfr 0 (by decide)).2.1]
  have in0 : vp_in (nI 0) 256 := vp_in_nI (by decide) (by decide)
  have e0 : (nI 0).toNatClampNeg = 0 := nI_clamp (by decide)
  refine br_t (by decide) (And.intro in0 ?_)
  rw [e0]
  refine nm_e (And.intro in0 (nm_e ?_))
  refine cp_pushFrame (d := 0) (by rw [hd]; rfl) (by decide) ?_
  intro frg' hr1 hr2
  refine br_f (by decide) ?_
  have e4 : nI 0 * 4 = nI (0 * 4 + 0) := by decide
  rw [e4, nI_clamp (n := 0 * 4 + 0) (by decide)]
  refine And.intro (vp_in_nI (by decide) (by decide)) (nm_e ?_)
  generalize hg : ((0, 0, 0, arg, 0, 0, fun _ => 0) : cp_N) = g0 at K
  have gid : cp_id g0 = 0 := by rw [← hg]
  have gk : cp_k g0 = 0 := by rw [← hg]
  have gs : cp_s g0 = 0 := by rw [← hg]
  have gv : cp_v g0 = arg := by rw [← hg]
  have go : cp_o g0 = 0 := by rw [← hg]
  have gmem : ∀ g ∈ [g0] ++ [], g = g0 := fun g hgm => by
    rw [List.append_nil] at hgm
    rcases List.mem_cons.mp hgm with h | h
    · exact h
    · cases h
  have nk : ∀ k : Int32, k = 1 ∨ k = 2 ∨ k = 3 → ¬ cp_k g0 = k := fun k h e => by
    rw [gk] at e
    rcases h with h | h | h <;> (rw [h] at e; exact absurd e (by decide))
  have hfl : ∀ c, cp_fl c ([g0] ++ []) = [] := fun c => by
    rw [List.append_nil]
    exact cp_fl_n (t := []) (cp_A_no (fun z => z.1.elim (nk 1 (Or.inl rfl)) (nk 2 (Or.inr (Or.inl rfl)))))
  have hlab : (upd a_labelOf 0 1 0).toInt = 1 := by rw [pk_us]; decide
  refine K _ _ _ _ _ _ _ _ _ _ _ _ _ _ _ _ _ _ _ _ _ _ _ _ _ _ _ _ _ ⟨1, 255, [g0], [], [cp_nf g0], [(cp_nf g0, -1, -1, -1)], ?_, Or.inl ⟨⟨⟨⟨hc, h2, h16, hfn, hf, hl, hlN, rfl, by omega, rfl, by omega, by omega, by simp⟩, fun g hgm => ?_, ?_, ⟨fun g hgm => ?_, fun g hgm => ?_, fun p z e => ?_⟩, ⟨0, hhs, ⟨?_, ?_, ?_⟩, ?_⟩, fun g hgm h => ?_, fun n hn => ?_, ⟨fun i hi => ?_, fun i j hi hj e => ?_⟩, fun n hn h => ?_⟩, fun c hcc => ?_, ⟨?_, trivial⟩, ?_, ⟨[], g0, rfl⟩, fun A hA => ?_, ⟨?_, ?_, ?_, ?_, ?_, ?_, ?_, ?_, trivial⟩, rfl, by simp, by simp, hC, gk, ⟨0, rfl, rfl⟩, hov⟩, ?_, ⟨_, [], rfl, rfl⟩, ⟨[], rfl, Or.inl ⟨rfl, Or.inl ⟨rfl, rfl, rfl, rfl⟩⟩⟩⟩⟩
  · show 40 * (lN - 1) + 40 * 0 + (2 * (17 - min 0 16) + 0 + 0) + 1 ≤ 20000
    omega
  · rw [gmem g hgm]
    refine ⟨⟨by rw [gid]; decide, by rw [gid, pk_us, gk], by rw [gid, pk_us, gs]; rfl, by rw [gid, pk_us, gv], fun h => ?_⟩, by rw [gid, pk_us, go], by rw [go]; decide, Or.inl gk, fun h => ?_, fun _ => ⟨by omega, by rw [go, gid]⟩, fun h => absurd h (nk 3 (Or.inr (Or.inr rfl))), fun h => absurd h (nk 1 (Or.inl rfl))⟩
    · omega
    · omega
  · rw [List.append_nil]; exact List.pairwise_singleton _ _
  · rw [gmem g hgm, gid, hlab]; exact ⟨by decide, by decide⟩
  · cases hgm
  · have : [g0] = p ++ [z] := e
    cases p with
    | nil =>
      obtain ⟨rfl, _⟩ := List.cons.inj this
      rw [gid, hlab]; decide
    | cons y p' =>
      obtain ⟨_, h⟩ := List.cons.inj this
      cases p' <;> cases h
  · intro i hi; omega
  · intro i j hi; omega
  · intro n hn h; exact absurd (hfr n hn).2.1 h
  · intro i i0 hi; omega
  · rw [gmem g hgm, gid] at h; exact absurd (hfr 0 (by decide)).2.1 h
  · by_cases e : n = 0
    · subst e
      rw [pk_us]
      exact ⟨fun _ => ⟨g0, by simp, gid⟩, fun _ => by decide⟩
    · rw [pk_un e, (hfr n hn).1]
      exact ⟨fun h => absurd rfl h, fun ⟨g, hgm, e2⟩ => by rw [gmem g hgm, gid] at e2; exact absurd e2.symm e⟩
  · refine ⟨255 - i, by omega, (hfr i (by omega)).2.2, (hfr _ (by omega)).2.1, fun g hgm => ?_⟩
    rw [gmem g hgm, gid, go]
    exact ⟨by omega, by omega⟩
  · rw [(hfr i (by omega)).2.2, (hfr j (by omega)).2.2] at e
    have := (nI_eq (by omega) (by omega)).mp e
    omega
  · exact absurd (hfr n hn).2.1 h
  · rw [hfl c]
    exact ⟨⟨(hch c hcc).1, (hch c hcc).2, trivial⟩, trivial, trivial⟩
  · rw [gid, pk_us]; rfl
  · show nI 0 = nI (cp_id g0); rw [gid]
  · rcases List.mem_cons.mp hA with rfl | hA
    · show cp_SP _ _ _ _ _ _ (cp_id g0) (cp_s g0) (cp_v g0)
      rw [gid, gs, gv]
      refine ⟨by decide, by rw [pk_us]; rfl, pk_us, by omega, fun i hi e => ?_, pk_us⟩
      rw [(hfr i (by omega)).2.2] at e
      have := (nI_eq (by omega) (by omega)).mp e
      omega
    · cases hA
  · show upd a_frameEnter 0 (nI 0) 0 = nI (cp_id g0); rw [pk_us, gid]
  · exact pk_us
  · show 0 ≤ 63; omega
  · exact pk_us
  · exact pk_us
  · show cp_rg (upd frg' (0 * 4 + 0) arg) 0 = upd (fun _ => 0) 0 (cp_v g0)
    rw [cp_rg_upd (by decide), hr1, gv]
  · show upd (upd a_leaveOf 0 (-1)) 0 (-1) (cp_id g0) = -1
    rw [gid, pk_us]
  · intro _ Y hY; cases hY
  · show nI 0 = nI (cp_id g0); rw [gid]
end
end
section
/-! ===== renumber ===== -/
def cp_Ix (na ix lab : Nat → Int32) : Nat → List cp_N → Prop
  | _, [] => True
  | i, g :: t => na i = nI (cp_id g) ∧ ix (cp_id g) = nI i ∧ lab (cp_id g) = nI ((i + 1) * 256) ∧ cp_Ix na ix lab (i + 1) t
theorem cp_Ix_app {na ix lab : Nat → Int32} : ∀ (i : Nat) (a b : List cp_N), cp_Ix na ix lab i (a ++ b) ↔ cp_Ix na ix lab i a ∧ cp_Ix na ix lab (i + a.length) b
  | i, [], b => by show _ ↔ True ∧ _; rw [true_and]; rfl
  | i, g :: t, b => by
    have ih := cp_Ix_app (na := na) (ix := ix) (lab := lab) (i + 1) t b
    have e : i + 1 + t.length = i + (g :: t).length := by show _ = i + (t.length + 1); omega
    rw [e] at ih
    show na i = nI (cp_id g) ∧ ix (cp_id g) = nI i ∧ lab (cp_id g) = nI ((i + 1) * 256) ∧ cp_Ix na ix lab (i + 1) (t ++ b) ↔ (na i = nI (cp_id g) ∧ ix (cp_id g) = nI i ∧ lab (cp_id g) = nI ((i + 1) * 256) ∧ cp_Ix na ix lab (i + 1) t) ∧ _
    rw [ih, and_assoc, and_assoc, and_assoc]
theorem cp_Ix_fr {na ix lab na' ix' lab' : Nat → Int32} : ∀ (i : Nat) (l : List cp_N), (∀ j, i ≤ j → j < i + l.length → na' j = na j) → (∀ g ∈ l, ix' (cp_id g) = ix (cp_id g) ∧ lab' (cp_id g) = lab (cp_id g)) → cp_Ix na ix lab i l → cp_Ix na' ix' lab' i l
  | _, [], _, _, _ => trivial
  | i, g :: t, h, h2, ht => by
    have hi := h i (Nat.le_refl _) (by show i < i + (t.length + 1); omega)
    have hg := h2 g List.mem_cons_self
    exact ⟨hi.trans ht.1, hg.1.trans ht.2.1, hg.2.trans ht.2.2.1, cp_Ix_fr (i + 1) t (fun j h1 h3 => h j (by omega) (by show j < i + (t.length + 1); omega)) (fun x hx => h2 x (List.mem_cons_of_mem _ hx)) ht.2.2.2⟩
theorem cp_Ix_at {na ix lab : Nat → Int32} {a b : List cp_N} {g : cp_N} (h : cp_Ix na ix lab 0 (a ++ g :: b)) : na a.length = nI (cp_id g) ∧ ix (cp_id g) = nI a.length ∧ lab (cp_id g) = nI ((a.length + 1) * 256) := by
  have := ((cp_Ix_app _ _ _).mp h).2
  rw [Nat.zero_add] at this
  exact ⟨this.1, this.2.1, this.2.2.1⟩
theorem cp_Ix_lab {na ix lab : Nat → Int32} : ∀ (i : Nat) (l : List cp_N), cp_Ix na ix lab i l → ∀ g ∈ l, ∃ j, i ≤ j ∧ j < i + l.length ∧ lab (cp_id g) = nI ((j + 1) * 256)
  | _, [], _, _, hg => by cases hg
  | i, x :: t, h, g, hg => by
    have e : (x :: t).length = t.length + 1 := rfl
    rcases List.mem_cons.mp hg with rfl | hg
    · exact ⟨i, Nat.le_refl _, by omega, h.2.2.1⟩
    · obtain ⟨j, h1, h2, h3⟩ := cp_Ix_lab (i + 1) t h.2.2.2 g hg
      exact ⟨j, by omega, by omega, h3⟩
theorem cp_Ix_Lb {na ix lab : Nat → Int32} : ∀ (i : Nat) (l : List cp_N), i + l.length ≤ 256 → cp_Ix na ix lab i l → cp_Lb lab l
  | _, [], _, _ => List.Pairwise.nil
  | i, x :: t, hl, h => by
    have e : (x :: t).length = t.length + 1 := rfl
    refine List.pairwise_cons.mpr ⟨fun g hg => ?_, cp_Ix_Lb (i + 1) t (by omega) h.2.2.2⟩
    obtain ⟨j, h1, h2, h3⟩ := cp_Ix_lab (i + 1) t h.2.2.2 g hg
    rw [h.2.2.1, h3, nI_toInt (by omega), nI_toInt (by omega)]
    omega
/-- owners are there -/
theorem cp_RS_own {C : cp_C} {base : Nat → Int32} : ∀ (n : Nat) (st : List cp_F) (T : List cp_N) (st' : List cp_F) (T' : List cp_N), cp_RS C base n st T st' T' →
    (∀ A ∈ st, ∃ g ∈ T, cp_id g = A.1) → (∀ g ∈ T, ∃ h ∈ T, cp_id h = cp_o g) → ∀ g ∈ T', ∃ h ∈ T', cp_id h = cp_o g
  | 0, _, _, _, _, h, _, h2 => by rw [← h.2]; exact h2
  | n + 1, st, T, st', T', h, h1, h2 => by
    obtain ⟨s1, T1, hm, hr⟩ := h
    rcases hm with ⟨⟨A, A', R, rfl, _, hs, rfl⟩, rfl⟩ | ⟨x, ⟨A, R, rfl, hOC⟩, _, rfl⟩
    · refine cp_RS_own n _ _ _ _ hr (fun B hB => ?_) h2
      rcases List.mem_cons.mp hB with rfl | hB
      · rw [(cp_sil_same hs).1]; exact h1 A List.mem_cons_self
      · exact h1 B (List.mem_cons_of_mem _ hB)
    · have lift : ∀ e, (∃ g ∈ T, cp_id g = e) → ∃ g ∈ T ++ [x], cp_id g = e := fun e ⟨g, hg, he⟩ => ⟨g, List.mem_append.mpr (Or.inl hg), he⟩
      have hA := lift _ (h1 A List.mem_cons_self)
      have hR : ∀ B ∈ R, ∃ g ∈ T ++ [x], cp_id g = B.1 := fun B hB => lift _ (h1 B (List.mem_cons_of_mem _ hB))
      have hxm : x ∈ T ++ [x] := List.mem_append.mpr (Or.inr List.mem_cons_self)
      have hT : (∃ h ∈ T ++ [x], cp_id h = cp_o x) → ∀ g ∈ T ++ [x], ∃ h ∈ T ++ [x], cp_id h = cp_o g := by
        intro hx g hg
        rcases List.mem_append.mp hg with hg | hg
        · exact lift _ (h2 g hg)
        · rcases List.mem_cons.mp hg with rfl | hg
          · exact hx
          · cases hg
      rcases hOC with ⟨_, _, _, _, go, _, _, rfl⟩ | ⟨_, _, _, _, _, go, rfl⟩ | ⟨_, _, _, _, go, rfl⟩ | ⟨_, _, _, _, _, go, rfl⟩
      · refine cp_RS_own n _ _ _ _ hr (fun B hB => ?_) (hT (by rw [go]; exact hA))
        rcases List.mem_cons.mp hB with rfl | hB
        · exact hA
        · exact hR B hB
      · refine cp_RS_own n _ _ _ _ hr (fun B hB => ?_) (hT (by rw [go]; exact hA))
        rcases List.mem_cons.mp hB with rfl | hB
        · exact hA
        · exact hR B hB
      · exact cp_RS_own n _ _ _ _ hr hR (hT (by rw [go]; exact hA))
      · refine cp_RS_own n _ _ _ _ hr (fun B hB => ?_) (hT ⟨x, hxm, go.symm⟩)
        rcases List.mem_cons.mp hB with rfl | hB
        · exact ⟨x, hxm, rfl⟩
        · rcases List.mem_cons.mp hB with rfl | hB
          · exact hA
          · exact hR B hB
/-- a true run to the end is a replay -/
theorem cp_RS_OR {C : cp_C} {base : Nat → Int32} : ∀ (n : Nat) (st : List cp_F) (T T' : List cp_N), cp_RS C base n st T [] T' → ∃ W, T' = T ++ W ∧ cp_OR C n st W
  | 0, _, T, _, h => ⟨[], by rw [← h.2, List.append_nil], h.1, rfl⟩
  | n + 1, st, T, T', h => by
    obtain ⟨s1, T1, hm, hr⟩ := h
    obtain ⟨W, e, hW⟩ := cp_RS_OR n s1 T1 T' hr
    rcases hm with ⟨ht, rfl⟩ | ⟨g, hc, _, rfl⟩
    · exact ⟨W, e, Or.inl ⟨s1, ht, hW⟩⟩
    · exact ⟨g :: W, by rw [e]; simp, Or.inr ⟨g, s1, W, rfl, hc, hW⟩⟩
section
variable {f_cells f_functions f_limit f_status f_freeCount f_first f_size f_heapSize f_depth f_cur f_inserted f_overflowed : Int32} {a_bodySizes a_opAt a_aAt a_bAt a_baseValue a_settledValue a_outputValue a_changedMark a_cellHead a_cellTail a_kindOf a_subjectOf a_valueOf a_labelOf a_nextOf a_ownerOf a_leaveOf a_pcOf a_snapshot a_cellPrev a_cellNext a_sourceOf a_alive a_queued a_free a_nodeAt a_indexOf a_heap a_frameEnter a_framePc a_frameZone a_frameWait a_frameRegs : Nat → Int32}
theorem cp_ren9 {post : SX → Prop} {L : List cp_N} (hid : ∀ g ∈ L, cp_id g < 256) (hU : cp_U L) (hl : L.length ≤ 255) (hN : cp_Nx a_nextOf L (-1)) (K : ∀ na' ix' lab', cp_Ix na' ix' lab' 0 L → wX_renumber_61 post (nI L.length) f_cells f_functions f_limit f_status f_freeCount f_first f_size f_heapSize f_depth f_cur f_inserted f_overflowed a_bodySizes a_opAt a_aAt a_bAt a_baseValue a_settledValue a_outputValue a_changedMark a_cellHead a_cellTail a_kindOf a_subjectOf a_valueOf lab' a_nextOf a_ownerOf a_leaveOf a_pcOf a_snapshot a_cellPrev a_cellNext a_sourceOf a_alive a_queued a_free na' ix' a_heap a_frameEnter a_framePc a_frameZone a_frameWait a_frameRegs) :
    ∀ (b a : List cp_N) (m : Nat) (na ix lab : Nat → Int32), L = a ++ b → b.length < m → cp_Ix na ix lab 0 a → wX_renumber_9 post f_cells f_functions f_limit f_status f_freeCount f_first f_size f_heapSize f_depth f_cur f_inserted f_overflowed m (nI a.length) (cp_hx b (-1)) (nI a.length) a_bodySizes a_opAt a_aAt a_bAt a_baseValue a_settledValue a_outputValue a_changedMark a_cellHead a_cellTail a_kindOf a_subjectOf a_valueOf lab a_nextOf a_ownerOf a_leaveOf a_pcOf a_snapshot a_cellPrev a_cellNext a_sourceOf a_alive a_queued a_free na ix a_heap a_frameEnter a_framePc a_frameZone a_frameWait a_frameRegs := by
  intro b
  induction b with
  | nil =>
    intro a m na ix lab e hm h
    obtain ⟨m, rfl⟩ : ∃ m', m = m' + 1 := ⟨m - 1, by have : ([] : List cp_N).length = 0 := rfl; omega⟩
    rw [List.append_nil] at e
    subst e
    exact br_f (nI_ge (b := 256) (by omega) (by decide)) (br_t cp_m1neg (K na ix lab h))
  | cons g t ih =>
    intro a m na ix lab e hm h
    have hlen : (g :: t).length = t.length + 1 := rfl
    obtain ⟨m, rfl⟩ : ∃ m', m = m' + 1 := ⟨m - 1, by omega⟩
    have hla : a.length + (t.length + 1) ≤ 255 := by rw [e, List.length_append] at hl; omega
    have hgm : g ∈ L := by rw [e]; exact List.mem_append.mpr (Or.inr List.mem_cons_self)
    have hgi := hid g hgm
    have en : (nI (cp_id g)).toNatClampNeg = cp_id g := nI_clamp (by omega)
    have ein : vp_in (nI (cp_id g)) 256 := vp_in_nI hgi (by decide)
    have ina : vp_in (nI a.length) 256 := vp_in_nI (by omega) (by decide)
    rw [e] at hN hU
    have hnx : a_nextOf (cp_id g) = cp_hx t (-1) := ((cp_Nx_app _ _ _).mp hN).2.1
    have hU3 := (cp_U_app.mp hU).2.2
    have e256 : nI (a.length + 1) * 256 = nI ((a.length + 1) * 256) := pk_mul _ 256
    rw [show cp_hx (g :: t) (-1) = nI (cp_id g) from rfl]
    refine br_f (nI_ge (b := 256) (by omega) (by decide)) (br_f (nI_pos (by omega)) (And.intro ina ?_))
    rw [en, nI_clamp (n := a.length) (by omega)]
    refine nm_e (And.intro ein (nm_e (nm_r (nI_1 _) (And.intro ein (nm_r (congrArg _ e256) (And.intro ein (nm_r hnx (nm_r (nI_1 _) ?_))))))))
    have h' := ih (a ++ [g]) m (upd na a.length (nI (cp_id g))) (upd ix (cp_id g) (nI a.length)) (upd lab (cp_id g) (nI ((a.length + 1) * 256))) (by rw [e]; simp) (by omega) ?_
    · rw [show (a ++ [g]).length = a.length + 1 by simp] at h'
      exact h'
    · refine (cp_Ix_app _ _ _).mpr ⟨cp_Ix_fr _ _ (fun j _ h2 => pk_un (by omega)) (fun x hx => ?_) h, ?_⟩
      · have := hU3 x hx g List.mem_cons_self
        exact ⟨pk_un this, pk_un this⟩
      · rw [Nat.zero_add]; exact ⟨pk_us, pk_us, pk_us, trivial⟩
def cp_cnt (al : Nat → Int32) (i : Nat) : Nat := ((List.range i).filter (fun n => decide (al n ≠ 0))).length
theorem cp_cnt_s (al : Nat → Int32) (i : Nat) : cp_cnt al (i + 1) = cp_cnt al i + (if al i = 0 then 0 else 1) := by
  unfold cp_cnt
  rw [List.range_succ, List.filter_append, List.length_append]
  by_cases h : al i = 0
  · rw [if_pos h, List.filter_cons_of_neg (by simp [h])]; rfl
  · rw [if_neg h, List.filter_cons_of_pos (by simp [h])]; rfl
theorem cp_ren86 {post : SX → Prop} (K : ∀ fc fr', fc + cp_cnt a_alive 256 = 256 → (∀ j, j < fc → ∃ n, n < 256 ∧ fr' j = nI n ∧ a_alive n = 0) → (∀ j j', j < fc → j' < fc → fr' j = fr' j' → j = j') → post (f_cells, f_functions, f_limit, f_status, nI fc, f_first, f_size, f_heapSize, f_depth, f_cur, f_inserted, f_overflowed, a_bodySizes, a_opAt, a_aAt, a_bAt, a_baseValue, a_settledValue, a_outputValue, a_changedMark, a_cellHead, a_cellTail, a_kindOf, a_subjectOf, a_valueOf, a_labelOf, a_nextOf, a_ownerOf, a_leaveOf, a_pcOf, a_snapshot, a_cellPrev, a_cellNext, a_sourceOf, a_alive, a_queued, fr', a_nodeAt, a_indexOf, a_heap, a_frameEnter, a_framePc, a_frameZone, a_frameWait, a_frameRegs)) :
    ∀ (k i m fc : Nat) (fr : Nat → Int32), i + k = 256 → k < m → fc + cp_cnt a_alive i = i → (∀ j, j < fc → ∃ n, n < i ∧ fr j = nI n ∧ a_alive n = 0) → (∀ j j', j < fc → j' < fc → fr j = fr j' → j = j') →
      wX_renumber_86 post f_cells f_functions f_limit f_status f_first f_size f_heapSize f_depth f_cur f_inserted f_overflowed m (nI i) (nI fc) a_bodySizes a_opAt a_aAt a_bAt a_baseValue a_settledValue a_outputValue a_changedMark a_cellHead a_cellTail a_kindOf a_subjectOf a_valueOf a_labelOf a_nextOf a_ownerOf a_leaveOf a_pcOf a_snapshot a_cellPrev a_cellNext a_sourceOf a_alive a_queued fr a_nodeAt a_indexOf a_heap a_frameEnter a_framePc a_frameZone a_frameWait a_frameRegs := by
  intro k
  induction k with
  | zero =>
    intro i m fc fr hi hm hc h1 h2
    obtain ⟨m, rfl⟩ : ∃ m', m = m' + 1 := ⟨m - 1, by omega⟩
    obtain rfl : i = 256 := by omega
    exact br_t (by decide) (K fc fr hc h1 h2)
  | succ k ih =>
    intro i m fc fr hi hm hc h1 h2
    obtain ⟨m, rfl⟩ : ∃ m', m = m' + 1 := ⟨m - 1, by omega⟩
    have hcs := cp_cnt_s a_alive i
    refine br_f (nI_ge (b := 256) (by omega) (by decide)) (And.intro (vp_in_nI (by omega) (by decide)) ?_)
    rw [nI_clamp (n := i) (by omega)]
    refine br_c (fun h => And.intro (vp_in_nI (by omega) (by decide)) ?_) (fun h => nm_r (nI_1 _) ?_)
    · rw [nI_clamp (n := fc) (by omega)]
      refine nm_e (nm_r (nI_1 _) (nm_r (nI_1 _) ?_))
      rw [if_pos h] at hcs
      refine ih (i + 1) m (fc + 1) _ (by omega) (by omega) (by omega) (fun j hj => ?_) (fun j j' hj hj' e => ?_)
      · by_cases ej : j = fc
        · exact ⟨i, by omega, by rw [ej, pk_us], h⟩
        · obtain ⟨n, hn, en, ha⟩ := h1 j (by omega)
          exact ⟨n, by omega, by rw [pk_un ej]; exact en, ha⟩
      · have key : ∀ q, q < fc → fr q ≠ nI i := by
          intro q hq eq
          obtain ⟨n, hn, en, _⟩ := h1 q hq
          rw [en] at eq
          have := (nI_eq (by omega) (by omega)).mp eq
          omega
        by_cases ej : j = fc
        · by_cases ej' : j' = fc
          · omega
          · rw [ej, pk_us, pk_un ej'] at e
            exact absurd e.symm (key j' (by omega))
        · by_cases ej' : j' = fc
          · rw [ej', pk_us, pk_un ej] at e
            exact absurd e (key j (by omega))
          · rw [pk_un ej, pk_un ej'] at e
            exact h2 j j' (by omega) (by omega) e
    · rw [if_neg h] at hcs
      exact ih (i + 1) m fc fr (by omega) (by omega) (by omega) (fun j hj => by obtain ⟨n, hn, x⟩ := h1 j hj; exact ⟨n, by omega, x⟩) h2
theorem cp_cnt_le {al : Nat → Int32} {L : List cp_N} (h : ∀ n, n < 256 → al n ≠ 0 → ∃ g ∈ L, cp_id g = n) : cp_cnt al 256 ≤ L.length := by
  unfold cp_cnt
  have := cp_len ((List.range 256).filter (fun n => decide (al n ≠ 0))) (L.map (fun g => cp_id g)) (List.Pairwise.filter _ List.nodup_range) (by
    intro x hx
    obtain ⟨h1, h2⟩ := List.mem_filter.mp hx
    obtain ⟨g, hg, e⟩ := h x (List.mem_range.mp h1) (of_decide_eq_true h2)
    exact List.mem_map.mpr ⟨g, hg, e⟩)
  rw [List.length_map] at this
  exact this
end
end
section
/-! ===== the finished trace ===== -/
def cp_LX (cN fN lN fc : Nat) (g0 : cp_N) (W : List cp_N) (f_cells f_functions f_limit f_status f_freeCount f_first f_size f_heapSize f_depth f_cur f_inserted f_overflowed : Int32) (a_bodySizes a_opAt a_aAt a_bAt a_baseValue a_settledValue a_outputValue a_changedMark a_cellHead a_cellTail a_kindOf a_subjectOf a_valueOf a_labelOf a_nextOf a_ownerOf a_leaveOf a_pcOf a_snapshot a_cellPrev a_cellNext a_sourceOf a_alive a_queued a_free a_nodeAt a_indexOf a_heap a_frameEnter a_framePc a_frameZone a_frameWait a_frameRegs : Nat → Int32) : Prop :=
  cp_B cN fN lN 0 fc [g0] W f_cells f_functions f_limit 0 f_freeCount f_heapSize a_kindOf a_subjectOf a_valueOf a_labelOf a_ownerOf a_leaveOf a_pcOf a_snapshot a_alive a_queued a_free a_heap ∧ (g0 :: W).length ≤ lN ∧ f_size = nI (g0 :: W).length ∧ cp_Ix a_nodeAt a_indexOf a_labelOf 0 (g0 :: W) ∧ cp_Nx a_nextOf (g0 :: W) (-1) ∧ f_first = nI (cp_id g0) ∧
  (∀ c, c < 16 → cp_D (a_cellHead c) (a_cellTail c) a_cellPrev a_cellNext (cp_fl c (g0 :: W)) ∧ cp_So a_sourceOf (-1) (cp_fl c (g0 :: W))) ∧ f_heapSize = 0 ∧ cp_k g0 = 0 ∧ cp_s g0 = 0 ∧ cp_Rp (f_cells, a_bodySizes, a_opAt, a_aAt, a_bAt) [cp_nf g0] W
section
variable {f_cells f_functions f_limit f_status f_freeCount f_first f_size f_heapSize f_depth f_cur f_inserted f_overflowed : Int32} {a_bodySizes a_opAt a_aAt a_bAt a_baseValue a_settledValue a_outputValue a_changedMark a_cellHead a_cellTail a_kindOf a_subjectOf a_valueOf a_labelOf a_nextOf a_ownerOf a_leaveOf a_pcOf a_snapshot a_cellPrev a_cellNext a_sourceOf a_alive a_queued a_free a_nodeAt a_indexOf a_heap a_frameEnter a_framePc a_frameZone a_frameWait a_frameRegs : Nat → Int32}
theorem cp_renumber {post : SX → Prop} {cN fN lN : Nat} {g0 : cp_N} (hF : cp_Fn cN fN lN g0 f_cells f_functions f_limit f_status f_freeCount f_first f_size f_heapSize f_depth f_cur f_inserted f_overflowed a_bodySizes a_opAt a_aAt a_bAt a_baseValue a_settledValue a_outputValue a_changedMark a_cellHead a_cellTail a_kindOf a_subjectOf a_valueOf a_labelOf a_nextOf a_ownerOf a_leaveOf a_pcOf a_snapshot a_cellPrev a_cellNext a_sourceOf a_alive a_queued a_free a_nodeAt a_indexOf a_heap a_frameEnter a_framePc a_frameZone a_frameWait a_frameRegs) (hs0 : cp_s g0 = 0) (ho0 : cp_o g0 = cp_id g0)
    (KO : ∀ sz fcI na ix lab fr, cp_Ov (f_cells, a_bodySizes, a_opAt, a_aAt, a_bAt) a_baseValue g0 lN → post (f_cells, f_functions, f_limit, f_status, fcI, f_first, sz, f_heapSize, f_depth, f_cur, f_inserted, 1, a_bodySizes, a_opAt, a_aAt, a_bAt, a_baseValue, a_settledValue, a_outputValue, a_changedMark, a_cellHead, a_cellTail, a_kindOf, a_subjectOf, a_valueOf, lab, a_nextOf, a_ownerOf, a_leaveOf, a_pcOf, a_snapshot, a_cellPrev, a_cellNext, a_sourceOf, a_alive, a_queued, fr, na, ix, a_heap, a_frameEnter, a_framePc, a_frameZone, a_frameWait, a_frameRegs))
    (K : ∀ fc W na ix lab fr, cp_LX cN fN lN fc g0 W f_cells f_functions f_limit f_status (nI fc) f_first (nI (g0 :: W).length) f_heapSize f_depth f_cur f_inserted f_overflowed a_bodySizes a_opAt a_aAt a_bAt a_baseValue a_settledValue a_outputValue a_changedMark a_cellHead a_cellTail a_kindOf a_subjectOf a_valueOf lab a_nextOf a_ownerOf a_leaveOf a_pcOf a_snapshot a_cellPrev a_cellNext a_sourceOf a_alive a_queued fr na ix a_heap a_frameEnter a_framePc a_frameZone a_frameWait a_frameRegs → cp_Re (f_cells, a_bodySizes, a_opAt, a_aAt, a_bAt) a_baseValue g0 [] (g0 :: W) → f_overflowed = 0 → post (f_cells, f_functions, f_limit, f_status, nI fc, f_first, nI (g0 :: W).length, f_heapSize, f_depth, f_cur, f_inserted, f_overflowed, a_bodySizes, a_opAt, a_aAt, a_bAt, a_baseValue, a_settledValue, a_outputValue, a_changedMark, a_cellHead, a_cellTail, a_kindOf, a_subjectOf, a_valueOf, lab, a_nextOf, a_ownerOf, a_leaveOf, a_pcOf, a_snapshot, a_cellPrev, a_cellNext, a_sourceOf, a_alive, a_queued, fr, na, ix, a_heap, a_frameEnter, a_framePc, a_frameZone, a_frameWait, a_frameRegs)) :
    wpX_renumber post (f_cells, f_functions, f_limit, f_status, f_freeCount, f_first, f_size, f_heapSize, f_depth, f_cur, f_inserted, f_overflowed, a_bodySizes, a_opAt, a_aAt, a_bAt, a_baseValue, a_settledValue, a_outputValue, a_changedMark, a_cellHead, a_cellTail, a_kindOf, a_subjectOf, a_valueOf, a_labelOf, a_nextOf, a_ownerOf, a_leaveOf, a_pcOf, a_snapshot, a_cellPrev, a_cellNext, a_sourceOf, a_alive, a_queued, a_free, a_nodeAt, a_indexOf, a_heap, a_frameEnter, a_framePc, a_frameZone, a_frameWait, a_frameRegs) := by
  obtain ⟨ins, fc0, L, ⟨hB, hI, hN, hf, hne, hSt, hXR, hdp, hdl, hil, hCW, hg0, hRe, hov⟩, hsz⟩ := hF
  rw [List.append_nil] at hI hN
  have hRe0 := hRe
  obtain ⟨nr, hRS⟩ := hRe
  obtain ⟨W, eL, hOR⟩ := cp_RS_OR nr _ _ _ hRS
  have eL' : L = g0 :: W := eL
  subst eL'
  have hown := cp_RS_own nr _ _ _ _ hRS (fun A hA => by
    rcases List.mem_cons.mp hA with rfl | hA
    · exact ⟨g0, List.mem_cons_self, rfl⟩
    · cases hA) (fun g hg => by
    rcases List.mem_cons.mp hg with rfl | hg
    · exact ⟨g, List.mem_cons_self, ho0.symm⟩
    · cases hg)
  obtain ⟨⟨n1, n2, n3, n4, n5, n6, n7, n8, n9, n10, n11, n12, n13⟩, hR, hL, hLc, ⟨hs, ehs, hHB, hHO⟩, hqk, hA, hFr, hLq⟩ := hB
  rw [List.append_nil] at n13 hR hL hqk hA hFr
  have hs00 : hs = 0 := by
    rw [hsz] at ehs
    have := cp_HB_le hHB
    exact ((nI_eq (a := 0) (by omega) (by omega)).mp ehs).symm
  subst hs00
  have hq0 : ∀ n, n < 256 → a_queued n = 0 := fun n hn => by
    by_cases h : a_queued n = 0
    · exact h
    · obtain ⟨i, hi, _⟩ := hHB.2.2 n hn h; omega
  have hid : ∀ g ∈ g0 :: W, cp_id g < 256 := fun g hg => (hR g hg).1.1
  have hcnt := cp_cnt_le (al := a_alive) (L := g0 :: W) (fun n hn h => (hA n hn).mp h)
  refine ⟨(g0 :: W).length + 1, ?_⟩
  have hstart : f_first = cp_hx (g0 :: W) (-1) := hf
  subst hstart
  refine cp_ren9 (L := g0 :: W) hid (cp_Lb_U hL) (by omega) hN ?_ (g0 :: W) [] ((g0 :: W).length + 1) a_nodeAt a_indexOf a_labelOf rfl (by omega) trivial
  intro na ix lab hIx
  by_cases hlim : (g0 :: W).length ≤ lN
  · refine br_t (by rw [n6]; exact nI_le hlim (by omega)) ⟨257, ?_⟩
    refine cp_ren86 ?_ 256 0 257 0 a_free (by omega) (by omega) rfl (fun j hj => by omega) (fun j j' hj => by omega)
    intro fc fr hfc hfr1 hfr2
    have hlab := cp_Ix_lab 0 _ hIx
    have hno : ∀ n, n < 256 → a_alive n = 0 → ∀ g ∈ g0 :: W, cp_id g ≠ n ∧ cp_o g ≠ n := by
      intro n hn ha g hg
      have hnot : ∀ h ∈ g0 :: W, cp_id h ≠ n := fun h hh e => (hA n hn).mpr ⟨h, hh, e⟩ ha
      refine ⟨hnot g hg, fun e => ?_⟩
      obtain ⟨h, hh, e2⟩ := hown g hg
      exact hnot h hh (e2.trans e)
    refine K fc W na ix lab fr ⟨⟨⟨n1, n2, n3, n4, n5, n6, n7, rfl, by omega, rfl, by omega, by omega, ?_⟩, hR, cp_Ix_Lb 0 (g0 :: W) (by omega) hIx, ⟨fun g hg => ?_, fun g hg => ?_, fun p z e => ?_⟩, ⟨0, hsz, hHB, fun i i0 il => by omega⟩, hqk, hA, ⟨fun i hi => ?_, hfr2⟩, fun n hn h => absurd (hq0 n hn) h⟩, hlim, rfl, hIx, hN, rfl, fun c hc => ⟨(hI c hc).1, (hI c hc).2.1⟩, hsz, hg0, hs0, nr, hOR⟩ hRe0 hov
    · show (g0 :: W).length ≤ _; omega
    · obtain ⟨j, h1, h2, h3⟩ := hlab g hg
      rw [h3, nI_toInt (by omega)]
      exact ⟨by omega, by omega⟩
    · obtain ⟨j, h1, h2, h3⟩ := hlab g (List.mem_cons_of_mem _ hg)
      rw [h3, nI_toInt (by omega)]
      omega
    · have e' : [g0] = p ++ [z] := e
      have hz : z ∈ g0 :: W := by
        have : z ∈ [g0] := by rw [e']; simp
        rcases List.mem_cons.mp this with rfl | h
        · exact List.mem_cons_self
        · cases h
      obtain ⟨j, h1, h2, h3⟩ := hlab z hz
      rw [h3, nI_toInt (by omega)]
      omega
    · obtain ⟨n, hn, en, ha⟩ := hfr1 i hi
      exact ⟨n, hn, en, hq0 n hn, hno n hn ha⟩
  · refine br_f (by rw [n6]; exact nI_ge (by omega) (by omega)) ⟨257, ?_⟩
    refine cp_ren86 ?_ 256 0 257 0 a_free (by omega) (by omega) rfl (fun j hj => by omega) (fun j j' hj => by omega)
    intro fc fr hfc hfr1 hfr2
    exact KO _ _ _ _ _ _ ⟨[], g0 :: W, hRe0, by omega⟩
theorem cp_fin28 {post : Int32 → Prop} {c : Nat} {w : Int32} (hc : c < 16) (hok : cp_ok w) (K : post (cp_gv a_valueOf w (a_baseValue c))) : wX_finalValue_28 post (nI c) w f_cells f_functions f_limit f_status f_freeCount f_first f_size f_heapSize f_depth f_cur f_inserted f_overflowed a_bodySizes a_opAt a_aAt a_bAt a_baseValue a_settledValue a_outputValue a_changedMark a_cellHead a_cellTail a_kindOf a_subjectOf a_valueOf a_labelOf a_nextOf a_ownerOf a_leaveOf a_pcOf a_snapshot a_cellPrev a_cellNext a_sourceOf a_alive a_queued a_free a_nodeAt a_indexOf a_heap a_frameEnter a_framePc a_frameZone a_frameWait a_frameRegs := by
  unfold wX_finalValue_28
  unfold cp_gv at K
  rcases hok with rfl | ⟨n, hn, rfl⟩
  · rw [if_neg (by decide)] at K
    refine br_f (by decide) (And.intro (vp_in_nI hc (by decide)) ?_)
    rw [nI_clamp (n := c) (by omega)]; exact K
  · rw [if_pos (nI_pos' (by omega))] at K
    exact br_t (nI_pos' (by omega)) (And.intro (vp_in_nI hn (by decide)) K)
theorem cp_finalValue {post : Int32 → Prop} {c : Nat} {L : List cp_N} (hc : c < 16) (hR : ∀ g ∈ L, cp_R0 a_kindOf a_subjectOf a_valueOf g) (hD : cp_D (a_cellHead c) (a_cellTail c) a_cellPrev a_cellNext (cp_fl c L)) (hS : cp_So a_sourceOf (-1) (cp_fl c L)) (K : post (cp_sto a_baseValue L c)) :
    wpX_finalValue post (f_cells, f_functions, f_limit, f_status, f_freeCount, f_first, f_size, f_heapSize, f_depth, f_cur, f_inserted, f_overflowed, a_bodySizes, a_opAt, a_aAt, a_bAt, a_baseValue, a_settledValue, a_outputValue, a_changedMark, a_cellHead, a_cellTail, a_kindOf, a_subjectOf, a_valueOf, a_labelOf, a_nextOf, a_ownerOf, a_leaveOf, a_pcOf, a_snapshot, a_cellPrev, a_cellNext, a_sourceOf, a_alive, a_queued, a_free, a_nodeAt, a_indexOf, a_heap, a_frameEnter, a_framePc, a_frameZone, a_frameWait, a_frameRegs) (nI c) := by
  have inc : vp_in (nI c) 16 := vp_in_nI hc (by decide)
  have hRf := cp_fl_R (c := c) hR
  unfold cp_sto at K
  refine And.intro inc ?_
  rw [nI_clamp (n := c) (by omega)]
  refine nm_r hD.2.1 ?_
  generalize cp_fl c L = l at hRf hS K
  rcases cp_nc l with rfl | ⟨l', g, rfl⟩
  · exact br_t cp_m1neg (cp_fin28 hc (Or.inl rfl) K)
  · have hg := (hRf g (List.mem_append.mpr (Or.inr List.mem_cons_self))).1
    have hgi := hg.1
    have en : (nI (cp_id g)).toNatClampNeg = cp_id g := nI_clamp (by omega)
    have ein : vp_in (nI (cp_id g)) 256 := vp_in_nI hgi (by decide)
    have hsrc := cp_So_at (b := []) hS
    rw [cp_cv_app] at K
    have K' : post (if cp_k g = 2 then cp_v g else cp_cv (a_baseValue c) l') := K
    rw [cp_lt_snoc]
    refine br_f (nI_pos (by omega)) (And.intro ein ?_)
    rw [en, hg.2.1]
    refine br_c (fun h => ?_) (fun h => And.intro ein (nm_r hsrc ?_))
    · rw [if_pos h] at K'
      refine cp_fin28 hc (Or.inr ⟨cp_id g, hgi, rfl⟩) ?_
      unfold cp_gv
      rw [if_pos (nI_pos' (by omega)), en, hg.2.2.2.1]; exact K'
    · rw [if_neg h] at K'
      have hRl : ∀ x ∈ l', cp_id x < 256 ∧ a_valueOf (cp_id x) = cp_v x := fun x hx => by
        have := (hRf x (List.mem_append.mpr (Or.inl hx))).1
        exact ⟨this.1, this.2.2.2.1⟩
      refine cp_fin28 hc (cp_ok_lw _ _ (Or.inl rfl) (fun x hx => (hRl x hx).1)) ?_
      rw [cp_gv_cv hRl]; exact K'
end
/-- an array filled at its beginning -/
def cp_fill (f s : Nat → Int32) (n : Nat) : Nat → Int32 := fun j => if j < n then s j else f j
theorem cp_fill_0 (f s : Nat → Int32) : cp_fill f s 0 = f := by
  funext j; exact if_neg (by omega)
theorem cp_fill_s {f s : Nat → Int32} {n : Nat} {v : Int32} (h : v = s n) : upd (cp_fill f s n) n v = cp_fill f s (n + 1) := by
  funext j
  by_cases e : j = n
  · rw [e, pk_us, h]; exact (if_pos (by omega)).symm
  · rw [pk_un e]
    by_cases hj : j < n
    · exact (if_pos hj).trans (if_pos (by omega)).symm
    · exact (if_neg hj).trans (if_neg (by omega)).symm
theorem cp_fill_at {f s : Nat → Int32} {n : Nat} : cp_fill f s n n = f n := if_neg (by omega)
theorem cp_fill_ext {f s s' : Nat → Int32} {n : Nat} (h : ∀ j, j < n → s j = s' j) : cp_fill f s n = cp_fill f s' n := by
  funext j
  by_cases hj : j < n
  · exact (if_pos hj).trans ((h j hj).trans (if_pos hj).symm)
  · exact (if_neg hj).trans (if_neg hj).symm
/-- how many are not 0 -/
def cp_nz (ch : Nat → Int32) : Nat → Nat
  | 0 => 0
  | n + 1 => cp_nz ch n + (if ch n = 0 then 0 else 1)
theorem cp_nz_le (ch : Nat → Int32) : ∀ n, cp_nz ch n ≤ n
  | 0 => Nat.le_refl _
  | n + 1 => by
    have := cp_nz_le ch n
    show cp_nz ch n + (if ch n = 0 then 0 else 1) ≤ n + 1
    split <;> omega
theorem cp_nz_ext {a b : Nat → Int32} : ∀ n, (∀ j, j < n → a j = b j) → cp_nz a n = cp_nz b n
  | 0, _ => rfl
  | n + 1, h => by
    show cp_nz a n + (if a n = 0 then 0 else 1) = cp_nz b n + (if b n = 0 then 0 else 1)
    rw [cp_nz_ext n (fun j hj => h j (by omega)), h n (by omega)]
section
variable {f_cells f_functions f_limit f_status f_freeCount f_first f_size f_heapSize f_depth f_cur f_inserted f_overflowed : Int32} {a_bodySizes a_opAt a_aAt a_bAt a_baseValue a_settledValue a_outputValue a_changedMark a_cellHead a_cellTail a_kindOf a_subjectOf a_valueOf a_labelOf a_nextOf a_ownerOf a_leaveOf a_pcOf a_snapshot a_cellPrev a_cellNext a_sourceOf a_alive a_queued a_free a_nodeAt a_indexOf a_heap a_frameEnter a_framePc a_frameZone a_frameWait a_frameRegs : Nat → Int32}
theorem cp_publish {post : Int32 → SX → Prop} {cN : Nat} {cmp : Int32} {L : List cp_N} {ch : Nat → Int32} (hcl : f_cells = nI cN) (h16 : cN ≤ 16) (hR : ∀ g ∈ L, cp_R0 a_kindOf a_subjectOf a_valueOf g)
    (hDS : ∀ c, c < 16 → cp_D (a_cellHead c) (a_cellTail c) a_cellPrev a_cellNext (cp_fl c L) ∧ cp_So a_sourceOf (-1) (cp_fl c L)) (hch : ∀ c, ch c = if cmp = 0 then 0 else if cp_sto a_baseValue L c = a_outputValue c then 0 else 1)
    (K : post (nI (cp_nz ch cN)) (f_cells, f_functions, f_limit, f_status, f_freeCount, f_first, f_size, f_heapSize, f_depth, f_cur, f_inserted, f_overflowed, a_bodySizes, a_opAt, a_aAt, a_bAt, a_baseValue, cp_fill a_settledValue a_baseValue cN, cp_fill a_outputValue (cp_sto a_baseValue L) cN, cp_fill a_changedMark ch cN, a_cellHead, a_cellTail, a_kindOf, a_subjectOf, a_valueOf, a_labelOf, a_nextOf, a_ownerOf, a_leaveOf, a_pcOf, a_snapshot, a_cellPrev, a_cellNext, a_sourceOf, a_alive, a_queued, a_free, a_nodeAt, a_indexOf, a_heap, a_frameEnter, a_framePc, a_frameZone, a_frameWait, a_frameRegs)) : wpX_publish post (f_cells, f_functions, f_limit, f_status, f_freeCount, f_first, f_size, f_heapSize, f_depth, f_cur, f_inserted, f_overflowed, a_bodySizes, a_opAt, a_aAt, a_bAt, a_baseValue, a_settledValue, a_outputValue, a_changedMark, a_cellHead, a_cellTail, a_kindOf, a_subjectOf, a_valueOf, a_labelOf, a_nextOf, a_ownerOf, a_leaveOf, a_pcOf, a_snapshot, a_cellPrev, a_cellNext, a_sourceOf, a_alive, a_queued, a_free, a_nodeAt, a_indexOf, a_heap, a_frameEnter, a_framePc, a_frameZone, a_frameWait, a_frameRegs) cmp := by
  have main : ∀ (k i m : Nat), i + k = cN → k < m → wX_publish_4 post cmp f_cells f_functions f_limit f_status f_freeCount f_first f_size f_heapSize f_depth f_cur f_inserted f_overflowed m (nI (cp_nz ch i)) (nI i) a_bodySizes a_opAt a_aAt a_bAt a_baseValue (cp_fill a_settledValue a_baseValue i) (cp_fill a_outputValue (cp_sto a_baseValue L) i) (cp_fill a_changedMark ch i) a_cellHead a_cellTail a_kindOf a_subjectOf a_valueOf a_labelOf a_nextOf a_ownerOf a_leaveOf a_pcOf a_snapshot a_cellPrev a_cellNext a_sourceOf a_alive a_queued a_free a_nodeAt a_indexOf a_heap a_frameEnter a_framePc a_frameZone a_frameWait a_frameRegs := by
    intro k
    induction k with
    | zero =>
      intro i m hi hm
      obtain ⟨m, rfl⟩ : ∃ m', m = m' + 1 := ⟨m - 1, by omega⟩
      obtain rfl : i = cN := by omega
      exact br_t (by rw [hcl]; exact Int32.le_refl _) K
    | succ k ih =>
      intro i m hi hm
      obtain ⟨m, rfl⟩ : ∃ m', m = m' + 1 := ⟨m - 1, by omega⟩
      have inc : vp_in (nI i) 16 := vp_in_nI (by omega) (by decide)
      have ec : (nI i).toNatClampNeg = i := nI_clamp (by omega)
      have hnz : cp_nz ch (i + 1) = cp_nz ch i + (if ch i = 0 then 0 else 1) := rfl
      have hih := ih (i + 1) m (by omega) (by omega)
      -- the two ends
      have end57 : ∀ x2 : Int32, x2 = nI (cp_nz ch (i + 1)) → wX_publish_57 post (wX_publish_4 post cmp f_cells f_functions f_limit f_status f_freeCount f_first f_size f_heapSize f_depth f_cur f_inserted f_overflowed m) cmp x2 (nI i) (cp_sto a_baseValue L i) f_cells f_functions f_limit f_status f_freeCount f_first f_size f_heapSize f_depth f_cur f_inserted f_overflowed a_bodySizes a_opAt a_aAt a_bAt a_baseValue (cp_fill a_settledValue a_baseValue i) (cp_fill a_outputValue (cp_sto a_baseValue L) i) (cp_fill a_changedMark ch (i + 1)) a_cellHead a_cellTail a_kindOf a_subjectOf a_valueOf a_labelOf a_nextOf a_ownerOf a_leaveOf a_pcOf a_snapshot a_cellPrev a_cellNext a_sourceOf a_alive a_queued a_free a_nodeAt a_indexOf a_heap a_frameEnter a_framePc a_frameZone a_frameWait a_frameRegs := by
        intro x2 e
        subst e
        unfold wX_publish_57
        rw [ec, cp_fill_s rfl, cp_fill_s rfl]
        exact And.intro inc (nm_e (And.intro inc (And.intro inc (nm_e (nm_r (nI_1 _) hih)))))
      have end39 : ∀ z : Int32, z = ch i → (vp_nar .boolean z = z) → wX_publish_39 post (wX_publish_4 post cmp f_cells f_functions f_limit f_status f_freeCount f_first f_size f_heapSize f_depth f_cur f_inserted f_overflowed m) cmp (nI (cp_nz ch i)) (nI i) (cp_sto a_baseValue L i) z f_cells f_functions f_limit f_status f_freeCount f_first f_size f_heapSize f_depth f_cur f_inserted f_overflowed a_bodySizes a_opAt a_aAt a_bAt a_baseValue (cp_fill a_settledValue a_baseValue i) (cp_fill a_outputValue (cp_sto a_baseValue L) i) (cp_fill a_changedMark ch i) a_cellHead a_cellTail a_kindOf a_subjectOf a_valueOf a_labelOf a_nextOf a_ownerOf a_leaveOf a_pcOf a_snapshot a_cellPrev a_cellNext a_sourceOf a_alive a_queued a_free a_nodeAt a_indexOf a_heap a_frameEnter a_framePc a_frameZone a_frameWait a_frameRegs := by
        intro z ez hz
        unfold wX_publish_39
        rw [ec, hz, cp_fill_s ez]
        refine And.intro inc (nm_e (br_c (fun h => ?_) (fun h => nm_r (nI_1 _) ?_)))
        · refine end57 _ ?_
          rw [hnz, if_pos (by rw [← ez]; exact h)]; rfl
        · refine end57 _ ?_
          rw [hnz, if_neg (by rw [← ez]; exact h)]
      refine br_f (by rw [hcl]; exact nI_ge (by omega) (by omega)) ?_
      refine cp_finalValue (by omega) hR (hDS i (by omega)).1 (hDS i (by omega)).2 ?_
      refine br_c (fun h => ?_) (fun h => And.intro inc ?_)
      · refine end39 0 ?_ cp_nar0
        rw [hch, if_pos h]
      · rw [ec, cp_fill_at]
        refine br_c (fun h2 => ?_) (fun h2 => ?_)
        · refine end39 0 ?_ cp_nar0
          rw [hch, if_neg h, if_pos h2]
        · refine end39 1 ?_ cp_nar1
          rw [hch, if_neg h, if_neg h2]
  have := main cN 0 (cN + 1) (by omega) (by omega)
  rw [cp_fill_0, cp_fill_0, cp_fill_0] at this
  exact ⟨cN + 1, this⟩
end
end
section
/-! ===== queueEdited, the start of a propagation ===== -/
section
variable {f_cells f_functions f_limit f_status f_freeCount f_first f_size f_heapSize f_depth f_cur f_inserted f_overflowed : Int32} {a_bodySizes a_opAt a_aAt a_bAt a_baseValue a_settledValue a_outputValue a_changedMark a_cellHead a_cellTail a_kindOf a_subjectOf a_valueOf a_labelOf a_nextOf a_ownerOf a_leaveOf a_pcOf a_snapshot a_cellPrev a_cellNext a_sourceOf a_alive a_queued a_free a_nodeAt a_indexOf a_heap a_frameEnter a_framePc a_frameZone a_frameWait a_frameRegs : Nat → Int32}
theorem cp_qed_loop {post : SX → Prop} {cN : Nat} {L : List cp_N} (hcl : f_cells = nI cN) (h16 : cN ≤ 16) (hR : ∀ g ∈ L, cp_R0 a_kindOf a_subjectOf a_valueOf g) (hU : cp_U L) (hlen : L.length ≤ 255) (hD : ∀ c, c < 16 → cp_D (a_cellHead c) (a_cellTail c) a_cellPrev a_cellNext (cp_fl c L))
    (hset : ∀ c qd, c < 16 → cp_SQ qd (a_settledValue c) (cp_fl c L))
    (K : ∀ src sz hp qd, (∀ c, c < 16 → cp_So src (-1) (cp_fl c L)) → (∀ c, c < cN → cp_SQ qd (a_baseValue c) (cp_fl c L)) → cp_H sz hp qd a_labelOf → (∀ n, n < 256 → qd n ≠ 0 → ∃ y ∈ L, cp_id y = n ∧ cp_k y = 1) → post (f_cells, f_functions, f_limit, f_status, f_freeCount, f_first, f_size, sz, f_depth, f_cur, f_inserted, f_overflowed, a_bodySizes, a_opAt, a_aAt, a_bAt, a_baseValue, a_settledValue, a_outputValue, a_changedMark, a_cellHead, a_cellTail, a_kindOf, a_subjectOf, a_valueOf, a_labelOf, a_nextOf, a_ownerOf, a_leaveOf, a_pcOf, a_snapshot, a_cellPrev, a_cellNext, src, a_alive, qd, a_free, a_nodeAt, a_indexOf, hp, a_frameEnter, a_framePc, a_frameZone, a_frameWait, a_frameRegs)) :
    ∀ (k i m : Nat) (src : Nat → Int32) (sz : Int32) (hp qd : Nat → Int32), i + k = cN → k < m → (∀ c, c < 16 → cp_So src (-1) (cp_fl c L)) → (∀ c, c < i → cp_SQ qd (a_baseValue c) (cp_fl c L)) → cp_H sz hp qd a_labelOf → (∀ n, n < 256 → qd n ≠ 0 → ∃ y ∈ L, cp_id y = n ∧ cp_k y = 1) →
      wX_queueEdited_2 post m (nI i) f_cells f_functions f_limit f_status f_freeCount f_first f_size sz f_depth f_cur f_inserted f_overflowed a_bodySizes a_opAt a_aAt a_bAt a_baseValue a_settledValue a_outputValue a_changedMark a_cellHead a_cellTail a_kindOf a_subjectOf a_valueOf a_labelOf a_nextOf a_ownerOf a_leaveOf a_pcOf a_snapshot a_cellPrev a_cellNext src a_alive qd a_free a_nodeAt a_indexOf hp a_frameEnter a_framePc a_frameZone a_frameWait a_frameRegs := by
  intro k
  induction k with
  | zero =>
    intro i m src sz hp qd hi hm h1 h2 h3 h4
    obtain ⟨m, rfl⟩ : ∃ m', m = m' + 1 := ⟨m - 1, by omega⟩
    obtain rfl : i = cN := by omega
    exact br_t (by rw [hcl]; exact Int32.le_refl _) (K src sz hp qd h1 h2 h3 h4)
  | succ k ih =>
    intro i m src sz hp qd hi hm h1 h2 h3 h4
    obtain ⟨m, rfl⟩ : ∃ m', m = m' + 1 := ⟨m - 1, by omega⟩
    have inc : vp_in (nI i) 16 := vp_in_nI (by omega) (by decide)
    refine br_f (by rw [hcl]; exact nI_ge (by omega) (by omega)) (And.intro inc (And.intro inc ?_))
    rw [nI_clamp (n := i) (by omega)]
    refine br_c (fun h => nm_r (nI_1 _) ?_) (fun h => And.intro inc ?_)
    · refine ih (i + 1) m src sz hp qd (by omega) (by omega) h1 (fun c hc => ?_) h3 h4
      by_cases e : c = i
      · rw [e, h]; exact hset i qd (by omega)
      · exact h2 c (by omega)
    · rw [(hD i (by omega)).1]
      have hl : (cp_fl i L).length ≤ 255 := Nat.le_trans cp_fl_len hlen
      refine cp_adopt (c := i) (Or.inl rfl) (by omega) hl (cp_fl_R hR) (cp_U_fl hU) (hD i (by omega)).2.2 (h1 i (by omega)) (hset i qd (by omega)) h3 ?_
      intro src' sz' hp' qd' m1 m2 m3 m4 m5 m6
      rw [cp_gv_m1] at m2
      refine nm_r (nI_1 _) ?_
      refine ih (i + 1) m src' sz' hp' qd' (by omega) (by omega) (fun c hc => ?_) (fun c hc => ?_) m3 (fun n hn h => ?_)
      · by_cases e : c = i
        · rw [e]; exact m1
        · exact cp_So_fr _ _ (fun y hy => m6 _ (fun x hx => cp_fl_off hU hx hy e)) (h1 c hc)
      · by_cases e : c = i
        · rw [e]; exact m2
        · exact cp_SQ_mono _ _ (fun x _ h => m4 _ h) (h2 c (by omega))
      · rcases m5 n h with h | ⟨y, hy, e⟩
        · exact h4 n hn h
        · exact ⟨y, (cp_fl_mem hy).1, e⟩
theorem cp_B_q2 {cN fN lN ins fc : Nat} {pre Q : List cp_N} {sz' : Int32} {hp' qd' : Nat → Int32} (hB : cp_B cN fN lN ins fc pre Q f_cells f_functions f_limit f_inserted f_freeCount f_heapSize a_kindOf a_subjectOf a_valueOf a_labelOf a_ownerOf a_leaveOf a_pcOf a_snapshot a_alive a_queued a_free a_heap) (hH : cp_H sz' hp' qd' a_labelOf) (hq : ∀ n, n < 256 → qd' n ≠ 0 → ∃ y ∈ pre ++ Q, cp_id y = n ∧ cp_k y = 1) :
    cp_B cN fN lN ins fc pre Q f_cells f_functions f_limit f_inserted f_freeCount sz' a_kindOf a_subjectOf a_valueOf a_labelOf a_ownerOf a_leaveOf a_pcOf a_snapshot a_alive qd' a_free hp' := by
  obtain ⟨n0, hR, hL, hLc, _, hqk, hA, ⟨hF1, hF2⟩, hLq⟩ := hB
  refine ⟨n0, hR, hL, hLc, hH, fun g hg h => ?_, hA, ⟨fun i hi => ?_, hF2⟩, fun n hn h => ?_⟩
  · obtain ⟨y, hy, e, k⟩ := hq _ (hR g hg).1.1 h
    rw [cp_U_inj (cp_Lb_U hL) hg hy e.symm]; exact k
  · obtain ⟨n, hn, e, hqn, hno⟩ := hF1 i hi
    refine ⟨n, hn, e, ?_, hno⟩
    by_cases h : qd' n = 0
    · exact h
    · obtain ⟨y, hy, e2, _⟩ := hq n hn h
      exact absurd e2 (hno y hy).1
  · obtain ⟨y, hy, e2, _⟩ := hq n hn h
    have := hLc.1 y hy
    rw [e2] at this
    have h7 := n0.2.2.2.2.2.2.1
    have h9 := n0.2.2.2.2.2.2.2.2.1
    exact ⟨this.1, by omega⟩
theorem cp_prop_start {pst : SX → Prop} {cN fN lN fc : Nat} {g0 : cp_N} {W : List cp_N} (hX : cp_LX cN fN lN fc g0 W f_cells f_functions f_limit f_status f_freeCount f_first f_size f_heapSize f_depth f_cur f_inserted f_overflowed a_bodySizes a_opAt a_aAt a_bAt a_baseValue a_settledValue a_outputValue a_changedMark a_cellHead a_cellTail a_kindOf a_subjectOf a_valueOf a_labelOf a_nextOf a_ownerOf a_leaveOf a_pcOf a_snapshot a_cellPrev a_cellNext a_sourceOf a_alive a_queued a_free a_nodeAt a_indexOf a_heap a_frameEnter a_framePc a_frameZone a_frameWait a_frameRegs) (hC : cp_CW (f_cells, a_bodySizes, a_opAt, a_aAt, a_bAt) fN) (hset : ∀ a g b, g0 :: W = a ++ g :: b → cp_k g = 1 → cp_v g = cp_sto a_settledValue a (cp_s g)) (hd : f_depth = 0) (hin : f_inserted = 0) (hov : f_overflowed = 0)
    (K : ∀ src sz hp qd, cp_Sx cN fN lN g0 20000 f_cells f_functions f_limit f_status f_freeCount f_first f_size sz f_depth f_cur f_inserted f_overflowed a_bodySizes a_opAt a_aAt a_bAt a_baseValue a_settledValue a_outputValue a_changedMark a_cellHead a_cellTail a_kindOf a_subjectOf a_valueOf a_labelOf a_nextOf a_ownerOf a_leaveOf a_pcOf a_snapshot a_cellPrev a_cellNext src a_alive qd a_free a_nodeAt a_indexOf hp a_frameEnter a_framePc a_frameZone a_frameWait a_frameRegs → pst (f_cells, f_functions, f_limit, f_status, f_freeCount, f_first, f_size, sz, f_depth, f_cur, f_inserted, f_overflowed, a_bodySizes, a_opAt, a_aAt, a_bAt, a_baseValue, a_settledValue, a_outputValue, a_changedMark, a_cellHead, a_cellTail, a_kindOf, a_subjectOf, a_valueOf, a_labelOf, a_nextOf, a_ownerOf, a_leaveOf, a_pcOf, a_snapshot, a_cellPrev, a_cellNext, src, a_alive, qd, a_free, a_nodeAt, a_indexOf, hp, a_frameEnter, a_framePc, a_frameZone, a_frameWait, a_frameRegs)) : wpX_queueEdited pst (f_cells, f_functions, f_limit, f_status, f_freeCount, f_first, f_size, f_heapSize, f_depth, f_cur, f_inserted, f_overflowed, a_bodySizes, a_opAt, a_aAt, a_bAt, a_baseValue, a_settledValue, a_outputValue, a_changedMark, a_cellHead, a_cellTail, a_kindOf, a_subjectOf, a_valueOf, a_labelOf, a_nextOf, a_ownerOf, a_leaveOf, a_pcOf, a_snapshot, a_cellPrev, a_cellNext, a_sourceOf, a_alive, a_queued, a_free, a_nodeAt, a_indexOf, a_heap, a_frameEnter, a_framePc, a_frameZone, a_frameWait, a_frameRegs) := by
  obtain ⟨hB, hlen, hsz, hIx, hN, hf, hDS, hhs, hk0, hs0, hRp⟩ := hX
  have hB0 := hB
  obtain ⟨n0, hR, hL, hLc, ⟨hs, ehs, hHB, hHO⟩, hqk, hA, hFr, hLq⟩ := hB
  obtain ⟨n1, n2, n3, n4, n5, n6, n7, n8, n9, n10, n11, n12, n13⟩ := n0
  have hL' : [g0] ++ W = g0 :: W := rfl
  have hs00 : hs = 0 := by
    rw [hhs] at ehs
    have := cp_HB_le hHB
    exact ((nI_eq (a := 0) (by omega) (by omega)).mp ehs).symm
  subst hs00
  -- no queued node at all
  have hH0 : cp_H f_heapSize a_heap a_queued a_labelOf := ⟨0, ehs, hHB, hHO⟩
  have hcons : ∀ c qd, c < 16 → cp_SQ qd (a_settledValue c) (cp_fl c (g0 :: W)) := by
    intro c qd hc
    refine (cp_SQ_iff _ _).mpr (fun a g b e k hv => ?_)
    have hgm : g ∈ cp_fl c (g0 :: W) := by rw [e]; exact List.mem_append.mpr (Or.inr List.mem_cons_self)
    have hg := cp_fl_mem hgm
    obtain ⟨P, Q, eP⟩ := List.append_of_mem hg.1
    have h1 := hset P g Q eP k
    have hUf := cp_U_fl (c := c) (cp_Lb_U hL)
    have e2 : cp_fl c (g0 :: W) = cp_fl c P ++ g :: cp_fl c Q := by rw [eP, cp_fl_app, cp_fl_y (cp_A_iff.mpr hg.2)]
    rw [hL', e] at hUf
    have := cp_split_uniq hUf (e.symm.trans e2)
    subst this
    rw [hg.2.2] at h1
    exact absurd h1 hv
  refine ⟨cN + 1, ?_⟩
  have hqq : ∀ n, n < 256 → a_queued n = 0 := fun n hn => by
    by_cases h : a_queued n = 0
    · exact h
    · obtain ⟨i, hi, _⟩ := hHB.2.2 n hn h; omega
  subst hin
  refine cp_qed_loop n1 n3 (fun g hg => (hR g hg).1) (cp_Lb_U hL) (by omega) (fun c hc => (hDS c hc).1) hcons ?_ cN 0 (cN + 1) a_sourceOf f_heapSize a_heap a_queued (by omega) (by omega) (fun c hc => (hDS c hc).2) (fun c hc => by omega) hH0 (fun n hn h => absurd (hqq n hn) h)
  intro src sz hp qd k1 k2 k3 k4
  have hBq := cp_B_q2 hB0 k3 k4
  have hlW : (g0 :: W).length = W.length + 1 := rfl
  refine K src sz hp qd ⟨0, fc, [g0], W, [cp_nf g0], [], ?_, Or.inr ⟨⟨hBq, fun c hc => ⟨(hDS c hc).1, k1 c hc, ?_⟩, hN, hf, ⟨[], g0, rfl⟩, fun A hA => ?_, trivial, hd, Nat.zero_le _, Nat.zero_le _, hC, hk0, ⟨0, rfl, rfl⟩, hov⟩, ⟨[cp_nf g0], [], W, [], rfl, (List.append_nil W).symm, hRp, Or.inl ⟨rfl, rfl, rfl⟩⟩⟩⟩
  · show 40 * (lN - 0) + 40 * W.length + 0 + 1 ≤ 20000
    omega
  · by_cases h : c < cN
    · exact k2 c h
    · have : cp_fl c (g0 :: W) = [] := by
        refine List.filter_eq_nil_iff.mpr (fun g hg hAc => ?_)
        have h1 := cp_A_iff.mp hAc
        have h2 := (hR g hg).2.2.2.2.1 h1.1
        omega
      show cp_SQ qd (a_baseValue c) (cp_fl c (g0 :: W))
      rw [this]; trivial
  · rcases List.mem_cons.mp hA with rfl | hA
    · exact cp_SP_of hBq List.mem_cons_self hk0
    · cases hA
end
end
section
/-! ===== run and propagate of the component ===== -/
section
variable {f_cells f_functions f_limit f_status f_freeCount f_first f_size f_heapSize f_depth f_cur f_inserted f_overflowed : Int32} {a_bodySizes a_opAt a_aAt a_bAt a_baseValue a_settledValue a_outputValue a_changedMark a_cellHead a_cellTail a_kindOf a_subjectOf a_valueOf a_labelOf a_nextOf a_ownerOf a_leaveOf a_pcOf a_snapshot a_cellPrev a_cellNext a_sourceOf a_alive a_queued a_free a_nodeAt a_indexOf a_heap a_frameEnter a_framePc a_frameZone a_frameWait a_frameRegs : Nat → Int32}
theorem cp_giveUp {post : Int32 → SX → Prop} (K : ∀ (q_freeCount q_first q_heapSize q_depth q_cur q_inserted q_overflowed : Int32) (r_cellHead r_cellTail r_kindOf r_subjectOf r_valueOf r_labelOf r_nextOf r_ownerOf r_leaveOf r_pcOf r_snapshot r_cellPrev r_cellNext r_sourceOf r_alive r_queued r_heap r_frameEnter r_framePc r_frameZone r_frameWait r_frameRegs : Nat → Int32) (q_size : Int32) (r_free r_nodeAt r_indexOf : Nat → Int32), post (-5) (f_cells, f_functions, f_limit, 2, q_freeCount, q_first, q_size, q_heapSize, q_depth, q_cur, q_inserted, q_overflowed, a_bodySizes, a_opAt, a_aAt, a_bAt, a_baseValue, a_settledValue, a_outputValue, a_changedMark, r_cellHead, r_cellTail, r_kindOf, r_subjectOf, r_valueOf, r_labelOf, r_nextOf, r_ownerOf, r_leaveOf, r_pcOf, r_snapshot, r_cellPrev, r_cellNext, r_sourceOf, r_alive, r_queued, r_free, r_nodeAt, r_indexOf, r_heap, r_frameEnter, r_framePc, r_frameZone, r_frameWait, r_frameRegs)) : wpX_giveUp post (f_cells, f_functions, f_limit, f_status, f_freeCount, f_first, f_size, f_heapSize, f_depth, f_cur, f_inserted, f_overflowed, a_bodySizes, a_opAt, a_aAt, a_bAt, a_baseValue, a_settledValue, a_outputValue, a_changedMark, a_cellHead, a_cellTail, a_kindOf, a_subjectOf, a_valueOf, a_labelOf, a_nextOf, a_ownerOf, a_leaveOf, a_pcOf, a_snapshot, a_cellPrev, a_cellNext, a_sourceOf, a_alive, a_queued, a_free, a_nodeAt, a_indexOf, a_heap, a_frameEnter, a_framePc, a_frameZone, a_frameWait, a_frameRegs) := by
  unfold wpX_giveUp
  refine cp_clear (fun al' qd' fr' hd' tl' _ _ => ?_)
  exact K _ _ _ _ _ _ _ _ _ _ _ _ _ _ _ _ _ _ _ _ _ _ _ _ _ _ _ _ _ _ _ _ _
theorem cp_xrun {post : Int32 → SX → Prop} {cN fN lN : Nat} {arg : Int32} (hc : f_cells = nI cN) (h2 : 2 ≤ cN) (h16 : cN ≤ 16) (hfn : f_functions = nI fN) (hf1 : 0 < fN) (hf : fN ≤ 6) (hl : f_limit = nI lN) (hl1 : 8 ≤ lN) (hlN : lN ≤ 120) (hC : cp_CW (f_cells, a_bodySizes, a_opAt, a_aAt, a_bAt) fN)
    (KO : ∀ (q_freeCount q_first q_heapSize q_depth q_cur q_inserted q_overflowed : Int32) (r_cellHead r_cellTail r_kindOf r_subjectOf r_valueOf r_labelOf r_nextOf r_ownerOf r_leaveOf r_pcOf r_snapshot r_cellPrev r_cellNext r_sourceOf r_alive r_queued r_heap r_frameEnter r_framePc r_frameZone r_frameWait r_frameRegs : Nat → Int32) (q_size : Int32) (r_free r_nodeAt r_indexOf : Nat → Int32), cp_Ov (f_cells, a_bodySizes, a_opAt, a_aAt, a_bAt) a_baseValue (0, 0, 0, arg, 0, 0, fun _ => 0) lN → post (-5) (f_cells, f_functions, f_limit, 2, q_freeCount, q_first, q_size, q_heapSize, q_depth, q_cur, q_inserted, q_overflowed, a_bodySizes, a_opAt, a_aAt, a_bAt, a_baseValue, a_settledValue, a_outputValue, a_changedMark, r_cellHead, r_cellTail, r_kindOf, r_subjectOf, r_valueOf, r_labelOf, r_nextOf, r_ownerOf, r_leaveOf, r_pcOf, r_snapshot, r_cellPrev, r_cellNext, r_sourceOf, r_alive, r_queued, r_free, r_nodeAt, r_indexOf, r_heap, r_frameEnter, r_framePc, r_frameZone, r_frameWait, r_frameRegs))
    (KL : ∀ (q_freeCount q_first q_heapSize q_depth q_cur q_inserted q_overflowed : Int32) (r_cellHead r_cellTail r_kindOf r_subjectOf r_valueOf r_labelOf r_nextOf r_ownerOf r_leaveOf r_pcOf r_snapshot r_cellPrev r_cellNext r_sourceOf r_alive r_queued r_heap r_frameEnter r_framePc r_frameZone r_frameWait r_frameRegs : Nat → Int32) (q_size : Int32) (r_free r_nodeAt r_indexOf : Nat → Int32) (fc : Nat) (W : List cp_N), cp_LX cN fN lN fc (0, 0, 0, arg, 0, 0, fun _ => 0) W f_cells f_functions f_limit 1 q_freeCount q_first q_size q_heapSize q_depth q_cur q_inserted q_overflowed a_bodySizes a_opAt a_aAt a_bAt a_baseValue (cp_fill a_settledValue a_baseValue cN) (cp_fill a_outputValue (cp_sto a_baseValue ((0, 0, 0, arg, 0, 0, fun _ => 0) :: W)) cN) (cp_fill a_changedMark (fun _ => 0) cN) r_cellHead r_cellTail r_kindOf r_subjectOf r_valueOf r_labelOf r_nextOf r_ownerOf r_leaveOf r_pcOf r_snapshot r_cellPrev r_cellNext r_sourceOf r_alive r_queued r_free r_nodeAt r_indexOf r_heap r_frameEnter r_framePc r_frameZone r_frameWait r_frameRegs →
      cp_Re (f_cells, a_bodySizes, a_opAt, a_aAt, a_bAt) a_baseValue (0, 0, 0, arg, 0, 0, fun _ => 0) [] ((0, 0, 0, arg, 0, 0, fun _ => 0) :: W) →
      post (nI (((0, 0, 0, arg, 0, 0, fun _ => 0) : cp_N) :: W).length) (f_cells, f_functions, f_limit, 1, q_freeCount, q_first, q_size, q_heapSize, q_depth, q_cur, q_inserted, q_overflowed, a_bodySizes, a_opAt, a_aAt, a_bAt, a_baseValue, cp_fill a_settledValue a_baseValue cN, cp_fill a_outputValue (cp_sto a_baseValue ((0, 0, 0, arg, 0, 0, fun _ => 0) :: W)) cN, cp_fill a_changedMark (fun _ => 0) cN, r_cellHead, r_cellTail, r_kindOf, r_subjectOf, r_valueOf, r_labelOf, r_nextOf, r_ownerOf, r_leaveOf, r_pcOf, r_snapshot, r_cellPrev, r_cellNext, r_sourceOf, r_alive, r_queued, r_free, r_nodeAt, r_indexOf, r_heap, r_frameEnter, r_framePc, r_frameZone, r_frameWait, r_frameRegs)) :
    wpX_run post (f_cells, f_functions, f_limit, f_status, f_freeCount, f_first, f_size, f_heapSize, f_depth, f_cur, f_inserted, f_overflowed, a_bodySizes, a_opAt, a_aAt, a_bAt, a_baseValue, a_settledValue, a_outputValue, a_changedMark, a_cellHead, a_cellTail, a_kindOf, a_subjectOf, a_valueOf, a_labelOf, a_nextOf, a_ownerOf, a_leaveOf, a_pcOf, a_snapshot, a_cellPrev, a_cellNext, a_sourceOf, a_alive, a_queued, a_free, a_nodeAt, a_indexOf, a_heap, a_frameEnter, a_framePc, a_frameZone, a_frameWait, a_frameRegs) arg := by
  unfold wpX_run
  refine cp_clear (fun al' qd' fr' hd' tl' hfr hch => ?_)
  refine cp_first (cN := cN) (fN := fN) (lN := lN) hc h2 h16 hfn hf1 hf hl (by omega) hlN hC rfl rfl rfl rfl rfl rfl hfr hch ?_
  intro q_freeCount q_first q_heapSize q_depth q_cur q_inserted q_overflowed r_cellHead r_cellTail r_kindOf r_subjectOf r_valueOf r_labelOf r_nextOf r_ownerOf r_leaveOf r_pcOf r_snapshot r_cellPrev r_cellNext r_sourceOf r_alive r_queued r_heap r_frameEnter r_framePc r_frameZone r_frameWait r_frameRegs hx
  generalize hg : ((0, 0, 0, arg, 0, 0, fun _ => 0) : cp_N) = g0 at KO KL hx
  have gs : cp_s g0 = 0 := by rw [← hg]
  have go : cp_o g0 = cp_id g0 := by rw [← hg]
  refine cp_drive hx (by omega) ?_ ?_
  · clear hx
    intro q_freeCount q_first q_heapSize q_depth q_cur q_inserted q_overflowed r_cellHead r_cellTail r_kindOf r_subjectOf r_valueOf r_labelOf r_nextOf r_ownerOf r_leaveOf r_pcOf r_snapshot r_cellPrev r_cellNext r_sourceOf r_alive r_queued r_heap r_frameEnter r_framePc r_frameZone r_frameWait r_frameRegs hov e
    refine br_f (by rw [e]; decide) ?_
    unfold wX_run_26
    refine br_f (by rw [e]; decide) ?_
    exact cp_giveUp (fun q_freeCount q_first q_heapSize q_depth q_cur q_inserted q_overflowed r_cellHead r_cellTail r_kindOf r_subjectOf r_valueOf r_labelOf r_nextOf r_ownerOf r_leaveOf r_pcOf r_snapshot r_cellPrev r_cellNext r_sourceOf r_alive r_queued r_heap r_frameEnter r_framePc r_frameZone r_frameWait r_frameRegs q_size r_free r_nodeAt r_indexOf => KO q_freeCount q_first q_heapSize q_depth q_cur q_inserted q_overflowed r_cellHead r_cellTail r_kindOf r_subjectOf r_valueOf r_labelOf r_nextOf r_ownerOf r_leaveOf r_pcOf r_snapshot r_cellPrev r_cellNext r_sourceOf r_alive r_queued r_heap r_frameEnter r_framePc r_frameZone r_frameWait r_frameRegs _ _ _ _ hov)
  · clear hx
    intro q_freeCount q_first q_heapSize q_depth q_cur q_inserted q_overflowed r_cellHead r_cellTail r_kindOf r_subjectOf r_valueOf r_labelOf r_nextOf r_ownerOf r_leaveOf r_pcOf r_snapshot r_cellPrev r_cellNext r_sourceOf r_alive r_queued r_heap r_frameEnter r_framePc r_frameZone r_frameWait r_frameRegs hF
    have hov0 : q_overflowed = 0 := by obtain ⟨_, _, _, hM, _⟩ := hF; exact hM.2.2.2.2.2.2.2.2.2.2.2.2.2
    refine br_t hov0 ?_
    refine cp_renumber hF gs go ?_ ?_
    · intro sz fcI na ix lab fr hov
      unfold wX_run_26
      refine br_f (by decide) ?_
      exact cp_giveUp (fun q_freeCount q_first q_heapSize q_depth q_cur q_inserted q_overflowed r_cellHead r_cellTail r_kindOf r_subjectOf r_valueOf r_labelOf r_nextOf r_ownerOf r_leaveOf r_pcOf r_snapshot r_cellPrev r_cellNext r_sourceOf r_alive r_queued r_heap r_frameEnter r_framePc r_frameZone r_frameWait r_frameRegs q_size r_free r_nodeAt r_indexOf => KO q_freeCount q_first q_heapSize q_depth q_cur q_inserted q_overflowed r_cellHead r_cellTail r_kindOf r_subjectOf r_valueOf r_labelOf r_nextOf r_ownerOf r_leaveOf r_pcOf r_snapshot r_cellPrev r_cellNext r_sourceOf r_alive r_queued r_heap r_frameEnter r_framePc r_frameZone r_frameWait r_frameRegs _ _ _ _ hov)
    · intro fc W na ix lab fr hLX hRe _
      unfold wX_run_26
      refine br_t hov0 ?_
      have hR : ∀ g ∈ g0 :: W, cp_R0 r_kindOf r_subjectOf r_valueOf g := fun g hg => (hLX.1.2.1 g hg).1
      refine cp_publish (L := g0 :: W) (ch := fun _ => 0) hc h16 hR hLX.2.2.2.2.2.2.1 (fun c => by rw [if_pos rfl]) ?_
      exact KL _ _ _ _ _ _ _ _ _ _ _ _ _ _ _ _ _ _ _ _ _ _ _ _ _ _ _ _ _ _ _ _ _ fc W hLX hRe
theorem cp_xprop {post : Int32 → SX → Prop} {cN fN lN fc : Nat} {g0 : cp_N} {W : List cp_N} (hst : f_status = 1) (hX : cp_LX cN fN lN fc g0 W f_cells f_functions f_limit f_status f_freeCount f_first f_size f_heapSize f_depth f_cur f_inserted f_overflowed a_bodySizes a_opAt a_aAt a_bAt a_baseValue a_settledValue a_outputValue a_changedMark a_cellHead a_cellTail a_kindOf a_subjectOf a_valueOf a_labelOf a_nextOf a_ownerOf a_leaveOf a_pcOf a_snapshot a_cellPrev a_cellNext a_sourceOf a_alive a_queued a_free a_nodeAt a_indexOf a_heap a_frameEnter a_framePc a_frameZone a_frameWait a_frameRegs) (hC : cp_CW (f_cells, a_bodySizes, a_opAt, a_aAt, a_bAt) fN) (hset : ∀ a g b, g0 :: W = a ++ g :: b → cp_k g = 1 → cp_v g = cp_sto a_settledValue a (cp_s g))
    (KO : ∀ (q_freeCount q_first q_heapSize q_depth q_cur q_inserted q_overflowed : Int32) (r_cellHead r_cellTail r_kindOf r_subjectOf r_valueOf r_labelOf r_nextOf r_ownerOf r_leaveOf r_pcOf r_snapshot r_cellPrev r_cellNext r_sourceOf r_alive r_queued r_heap r_frameEnter r_framePc r_frameZone r_frameWait r_frameRegs : Nat → Int32) (q_size : Int32) (r_free r_nodeAt r_indexOf : Nat → Int32), cp_Ov (f_cells, a_bodySizes, a_opAt, a_aAt, a_bAt) a_baseValue g0 lN → post (-5) (f_cells, f_functions, f_limit, 2, q_freeCount, q_first, q_size, q_heapSize, q_depth, q_cur, q_inserted, q_overflowed, a_bodySizes, a_opAt, a_aAt, a_bAt, a_baseValue, a_settledValue, a_outputValue, a_changedMark, r_cellHead, r_cellTail, r_kindOf, r_subjectOf, r_valueOf, r_labelOf, r_nextOf, r_ownerOf, r_leaveOf, r_pcOf, r_snapshot, r_cellPrev, r_cellNext, r_sourceOf, r_alive, r_queued, r_free, r_nodeAt, r_indexOf, r_heap, r_frameEnter, r_framePc, r_frameZone, r_frameWait, r_frameRegs))
    (KL : ∀ (q_freeCount q_first q_heapSize q_depth q_cur q_inserted q_overflowed : Int32) (r_cellHead r_cellTail r_kindOf r_subjectOf r_valueOf r_labelOf r_nextOf r_ownerOf r_leaveOf r_pcOf r_snapshot r_cellPrev r_cellNext r_sourceOf r_alive r_queued r_heap r_frameEnter r_framePc r_frameZone r_frameWait r_frameRegs : Nat → Int32) (q_size : Int32) (r_free r_nodeAt r_indexOf : Nat → Int32) (fc' : Nat) (W' : List cp_N) (ch : Nat → Int32), (∀ c, ch c = if cp_sto a_baseValue (g0 :: W') c = a_outputValue c then 0 else 1) → cp_LX cN fN lN fc' g0 W' f_cells f_functions f_limit f_status q_freeCount q_first q_size q_heapSize q_depth q_cur q_inserted q_overflowed a_bodySizes a_opAt a_aAt a_bAt a_baseValue (cp_fill a_settledValue a_baseValue cN) (cp_fill a_outputValue (cp_sto a_baseValue (g0 :: W')) cN) (cp_fill a_changedMark ch cN) r_cellHead r_cellTail r_kindOf r_subjectOf r_valueOf r_labelOf r_nextOf r_ownerOf r_leaveOf r_pcOf r_snapshot r_cellPrev r_cellNext r_sourceOf r_alive r_queued r_free r_nodeAt r_indexOf r_heap r_frameEnter r_framePc r_frameZone r_frameWait r_frameRegs →
      cp_Re (f_cells, a_bodySizes, a_opAt, a_aAt, a_bAt) a_baseValue g0 [] (g0 :: W') →
      post (nI (cp_nz ch cN)) (f_cells, f_functions, f_limit, f_status, q_freeCount, q_first, q_size, q_heapSize, q_depth, q_cur, q_inserted, q_overflowed, a_bodySizes, a_opAt, a_aAt, a_bAt, a_baseValue, cp_fill a_settledValue a_baseValue cN, cp_fill a_outputValue (cp_sto a_baseValue (g0 :: W')) cN, cp_fill a_changedMark ch cN, r_cellHead, r_cellTail, r_kindOf, r_subjectOf, r_valueOf, r_labelOf, r_nextOf, r_ownerOf, r_leaveOf, r_pcOf, r_snapshot, r_cellPrev, r_cellNext, r_sourceOf, r_alive, r_queued, r_free, r_nodeAt, r_indexOf, r_heap, r_frameEnter, r_framePc, r_frameZone, r_frameWait, r_frameRegs)) :
    wpX_propagate post (f_cells, f_functions, f_limit, f_status, f_freeCount, f_first, f_size, f_heapSize, f_depth, f_cur, f_inserted, f_overflowed, a_bodySizes, a_opAt, a_aAt, a_bAt, a_baseValue, a_settledValue, a_outputValue, a_changedMark, a_cellHead, a_cellTail, a_kindOf, a_subjectOf, a_valueOf, a_labelOf, a_nextOf, a_ownerOf, a_leaveOf, a_pcOf, a_snapshot, a_cellPrev, a_cellNext, a_sourceOf, a_alive, a_queued, a_free, a_nodeAt, a_indexOf, a_heap, a_frameEnter, a_framePc, a_frameZone, a_frameWait, a_frameRegs) := by
  have hc : f_cells = nI cN := hX.1.1.1
  have h16 : cN ≤ 16 := hX.1.1.2.2.1
  have gs : cp_s g0 = 0 := hX.2.2.2.2.2.2.2.2.2.1
  have gk : cp_k g0 = 0 := hX.2.2.2.2.2.2.2.2.1
  have go : cp_o g0 = cp_id g0 := ((hX.1.2.1 g0 List.mem_cons_self).2.2.2.2.2.1 gk).2
  refine br_t hst ?_
  refine cp_prop_start (cN := cN) (fN := fN) (lN := lN) (fc := fc) (g0 := g0) (W := W) hX hC hset rfl rfl rfl ?_
  intro src sz hp qd hx
  refine cp_drive hx (by omega) ?_ ?_
  · clear hx
    intro q_freeCount q_first q_heapSize q_depth q_cur q_inserted q_overflowed r_cellHead r_cellTail r_kindOf r_subjectOf r_valueOf r_labelOf r_nextOf r_ownerOf r_leaveOf r_pcOf r_snapshot r_cellPrev r_cellNext r_sourceOf r_alive r_queued r_heap r_frameEnter r_framePc r_frameZone r_frameWait r_frameRegs hov e
    refine br_f (by rw [e]; decide) ?_
    unfold wX_propagate_45
    refine br_f (by rw [e]; decide) ?_
    exact cp_giveUp (fun q_freeCount q_first q_heapSize q_depth q_cur q_inserted q_overflowed r_cellHead r_cellTail r_kindOf r_subjectOf r_valueOf r_labelOf r_nextOf r_ownerOf r_leaveOf r_pcOf r_snapshot r_cellPrev r_cellNext r_sourceOf r_alive r_queued r_heap r_frameEnter r_framePc r_frameZone r_frameWait r_frameRegs q_size r_free r_nodeAt r_indexOf => KO q_freeCount q_first q_heapSize q_depth q_cur q_inserted q_overflowed r_cellHead r_cellTail r_kindOf r_subjectOf r_valueOf r_labelOf r_nextOf r_ownerOf r_leaveOf r_pcOf r_snapshot r_cellPrev r_cellNext r_sourceOf r_alive r_queued r_heap r_frameEnter r_framePc r_frameZone r_frameWait r_frameRegs _ _ _ _ hov)
  · clear hx
    intro q_freeCount q_first q_heapSize q_depth q_cur q_inserted q_overflowed r_cellHead r_cellTail r_kindOf r_subjectOf r_valueOf r_labelOf r_nextOf r_ownerOf r_leaveOf r_pcOf r_snapshot r_cellPrev r_cellNext r_sourceOf r_alive r_queued r_heap r_frameEnter r_framePc r_frameZone r_frameWait r_frameRegs hF
    have hov0 : q_overflowed = 0 := by obtain ⟨_, _, _, hM, _⟩ := hF; exact hM.2.2.2.2.2.2.2.2.2.2.2.2.2
    refine br_t hov0 ?_
    refine cp_renumber hF gs go ?_ ?_
    · intro sz fcI na ix lab fr hov
      unfold wX_propagate_45
      refine br_f (by decide) ?_
      exact cp_giveUp (fun q_freeCount q_first q_heapSize q_depth q_cur q_inserted q_overflowed r_cellHead r_cellTail r_kindOf r_subjectOf r_valueOf r_labelOf r_nextOf r_ownerOf r_leaveOf r_pcOf r_snapshot r_cellPrev r_cellNext r_sourceOf r_alive r_queued r_heap r_frameEnter r_framePc r_frameZone r_frameWait r_frameRegs q_size r_free r_nodeAt r_indexOf => KO q_freeCount q_first q_heapSize q_depth q_cur q_inserted q_overflowed r_cellHead r_cellTail r_kindOf r_subjectOf r_valueOf r_labelOf r_nextOf r_ownerOf r_leaveOf r_pcOf r_snapshot r_cellPrev r_cellNext r_sourceOf r_alive r_queued r_heap r_frameEnter r_framePc r_frameZone r_frameWait r_frameRegs _ _ _ _ hov)
    · intro fc W na ix lab fr hLX hRe _
      unfold wX_propagate_45
      refine br_t hov0 ?_
      have hR : ∀ g ∈ g0 :: W, cp_R0 r_kindOf r_subjectOf r_valueOf g := fun g hg => (hLX.1.2.1 g hg).1
      refine cp_publish (L := g0 :: W) (ch := fun c => if cp_sto a_baseValue (g0 :: W) c = a_outputValue c then 0 else 1) hc h16 hR hLX.2.2.2.2.2.2.1 (fun c => by rw [if_neg (show ¬ (1 : Int32) = 0 by decide)]) ?_
      exact KL _ _ _ _ _ _ _ _ _ _ _ _ _ _ _ _ _ _ _ _ _ _ _ _ _ _ _ _ _ _ _ _ _ fc W _ (fun _ => rfl) hLX hRe
end
end
section
/-! ===== run and propagate of the reference ===== -/
section
variable {h_cells h_functions h_limit h_state h_entries h_depth : Int32} {b_codeOp b_codeA b_codeB b_bodyLength b_baseValue b_settledValue b_outputValue b_changedMark b_kinds b_subjects b_values b_store b_openFunction b_openArg b_openNext b_regs : Nat → Int32}
theorem cp_yrun23 {post : Int32 → SY → Prop} {cN : Nat} {s : Nat → Int32} (hc : h_cells = nI cN) (h16 : cN ≤ 16) (hs : ∀ c, c < cN → b_store c = s c)
    (K : post h_entries (h_cells, h_functions, h_limit, h_state, h_entries, h_depth, b_codeOp, b_codeA, b_codeB, b_bodyLength, b_baseValue, cp_fill b_settledValue b_baseValue cN, cp_fill b_outputValue s cN, cp_fill b_changedMark (fun _ => 0) cN, b_kinds, b_subjects, b_values, b_store, b_openFunction, b_openArg, b_openNext, b_regs)) :
    ∀ (k i m : Nat), i + k = cN → k < m → wY_run_23 post h_cells h_functions h_limit h_state h_entries h_depth m (nI i) b_codeOp b_codeA b_codeB b_bodyLength b_baseValue (cp_fill b_settledValue b_baseValue i) (cp_fill b_outputValue s i) (cp_fill b_changedMark (fun _ => 0) i) b_kinds b_subjects b_values b_store b_openFunction b_openArg b_openNext b_regs := by
  intro k
  induction k with
  | zero =>
    intro i m hi hm
    obtain ⟨m, rfl⟩ : ∃ m', m = m' + 1 := ⟨m - 1, by omega⟩
    obtain rfl : i = cN := by omega
    exact br_t (by rw [hc]; exact Int32.le_refl _) K
  | succ k ih =>
    intro i m hi hm
    obtain ⟨m, rfl⟩ : ∃ m', m = m' + 1 := ⟨m - 1, by omega⟩
    have inc : vp_in (nI i) 16 := vp_in_nI (by omega) (by decide)
    refine br_f (by rw [hc]; exact nI_ge (by omega) (by omega)) ?_
    rw [nI_clamp (n := i) (by omega), cp_nar0, cp_fill_s (hs i (by omega)), cp_fill_s rfl, cp_fill_s (show (0 : Int32) = (fun _ : Nat => (0 : Int32)) i from rfl)]
    exact And.intro inc (And.intro inc (nm_e (And.intro inc (And.intro inc (nm_e (And.intro inc (nm_e (nm_r (nI_1 _) (ih (i + 1) m (by omega) (by omega))))))))))
theorem cp_yrun {post : Int32 → SY → Prop} {arg : Int32} {cN fN lN n : Nat} {g0 : cp_N} {st' : List cp_F} {T' : List cp_N} (hc : h_cells = nI cN) (h2 : 2 ≤ cN) (h16 : cN ≤ 16) (hf1 : 0 < fN) (hf : fN ≤ 6) (hl : h_limit = nI lN) (hl1 : 8 ≤ lN) (hlN : lN ≤ 120) (hC : cp_CW (h_cells, b_bodyLength, b_codeOp, b_codeA, b_codeB) fN)
    (hk : cp_k g0 = 0) (hs : cp_s g0 = 0) (hv : cp_v g0 = arg) (hr : cp_RS (h_cells, b_bodyLength, b_codeOp, b_codeA, b_codeB) b_baseValue n [cp_nf g0] [g0] st' T') (hor : (st' = [] ∧ T'.length ≤ lN) ∨ lN < T'.length)
    (K1 : ∀ (u_entries u_depth : Int32) (w_kinds w_subjects w_values w_store w_openFunction w_openArg w_openNext w_regs : Nat → Int32), T'.length ≤ lN → u_entries = nI T'.length → cp_Tr w_kinds w_subjects w_values 0 T' → post (nI T'.length) (h_cells, h_functions, h_limit, 1, u_entries, u_depth, b_codeOp, b_codeA, b_codeB, b_bodyLength, b_baseValue, cp_fill b_settledValue b_baseValue cN, cp_fill b_outputValue (cp_sto b_baseValue T') cN, cp_fill b_changedMark (fun _ => 0) cN, w_kinds, w_subjects, w_values, w_store, w_openFunction, w_openArg, w_openNext, w_regs))
    (K0 : ∀ (u_entries u_depth : Int32) (w_kinds w_subjects w_values w_store w_openFunction w_openArg w_openNext w_regs : Nat → Int32), lN < T'.length → post (-5) (h_cells, h_functions, h_limit, 2, u_entries, u_depth, b_codeOp, b_codeA, b_codeB, b_bodyLength, b_baseValue, b_settledValue, b_outputValue, b_changedMark, w_kinds, w_subjects, w_values, w_store, w_openFunction, w_openArg, w_openNext, w_regs)) : wpY_run post (h_cells, h_functions, h_limit, h_state, h_entries, h_depth, b_codeOp, b_codeA, b_codeB, b_bodyLength, b_baseValue, b_settledValue, b_outputValue, b_changedMark, b_kinds, b_subjects, b_values, b_store, b_openFunction, b_openArg, b_openNext, b_regs) arg := by
  unfold wpY_run
  refine cp_yeval hc h2 h16 hf1 hf hl (by omega) hlN hC hk hs hv hr hor ?_ ?_
  · intro u_entries u_depth w_kinds w_subjects w_values w_store w_openFunction w_openArg w_openNext w_regs _ hle hY
    refine br_f (by decide) ⟨cN + 1, ?_⟩
    have he := hY.1.2.2.2.2.2.2.1
    have := cp_yrun23 (post := post) (s := cp_sto b_baseValue T') (h_functions := h_functions) (h_limit := h_limit) (h_state := 1) (h_entries := u_entries) (h_depth := u_depth) (b_codeOp := b_codeOp) (b_codeA := b_codeA) (b_codeB := b_codeB) (b_bodyLength := b_bodyLength) (b_baseValue := b_baseValue) (b_settledValue := b_settledValue) (b_outputValue := b_outputValue) (b_changedMark := b_changedMark) (b_kinds := w_kinds) (b_subjects := w_subjects) (b_values := w_values) (b_store := w_store) (b_openFunction := w_openFunction) (b_openArg := w_openArg) (b_openNext := w_openNext) (b_regs := w_regs) hc h16 hY.2.2.1 (by rw [he]; exact K1 (nI T'.length) u_depth w_kinds w_subjects w_values w_store w_openFunction w_openArg w_openNext w_regs hle rfl hY.2.1) cN 0 (cN + 1) (by omega) (by omega)
    rw [cp_fill_0, cp_fill_0, cp_fill_0] at this
    exact this
  · intro u_entries u_depth w_kinds w_subjects w_values w_store w_openFunction w_openArg w_openNext w_regs hlt
    exact br_t rfl (K0 u_entries u_depth w_kinds w_subjects w_values w_store w_openFunction w_openArg w_openNext w_regs hlt)
theorem cp_yprop38 {post : Int32 → SY → Prop} {cN : Nat} {s ch : Nat → Int32} (hc : h_cells = nI cN) (h16 : cN ≤ 16) (hs : ∀ c, c < cN → b_store c = s c) (hch : ∀ c, ch c = if s c = b_outputValue c then 0 else 1)
    (K : post (nI (cp_nz ch cN)) (h_cells, h_functions, h_limit, h_state, h_entries, h_depth, b_codeOp, b_codeA, b_codeB, b_bodyLength, b_baseValue, cp_fill b_settledValue b_baseValue cN, cp_fill b_outputValue s cN, cp_fill b_changedMark ch cN, b_kinds, b_subjects, b_values, b_store, b_openFunction, b_openArg, b_openNext, b_regs)) :
    ∀ (k i m : Nat), i + k = cN → k < m → wY_propagate_38 post h_cells h_functions h_limit h_state h_entries h_depth m (nI (cp_nz ch i)) (nI i) b_codeOp b_codeA b_codeB b_bodyLength b_baseValue (cp_fill b_settledValue b_baseValue i) (cp_fill b_outputValue s i) (cp_fill b_changedMark ch i) b_kinds b_subjects b_values b_store b_openFunction b_openArg b_openNext b_regs := by
  intro k
  induction k with
  | zero =>
    intro i m hi hm
    obtain ⟨m, rfl⟩ : ∃ m', m = m' + 1 := ⟨m - 1, by omega⟩
    obtain rfl : i = cN := by omega
    exact br_t (by rw [hc]; exact Int32.le_refl _) K
  | succ k ih =>
    intro i m hi hm
    obtain ⟨m, rfl⟩ : ∃ m', m = m' + 1 := ⟨m - 1, by omega⟩
    have inc : vp_in (nI i) 16 := vp_in_nI (by omega) (by decide)
    have ec : (nI i).toNatClampNeg = i := nI_clamp (by omega)
    have hnz : cp_nz ch (i + 1) = cp_nz ch i + (if ch i = 0 then 0 else 1) := rfl
    have hih := ih (i + 1) m (by omega) (by omega)
    have end84 : ∀ x2 : Int32, x2 = nI (cp_nz ch (i + 1)) → wY_propagate_84 post (wY_propagate_38 post h_cells h_functions h_limit h_state h_entries h_depth m) x2 (nI i) h_cells h_functions h_limit h_state h_entries h_depth b_codeOp b_codeA b_codeB b_bodyLength b_baseValue (cp_fill b_settledValue b_baseValue i) (cp_fill b_outputValue s i) (cp_fill b_changedMark ch (i + 1)) b_kinds b_subjects b_values b_store b_openFunction b_openArg b_openNext b_regs := by
      intro x2 e
      subst e
      unfold wY_propagate_84
      rw [ec, cp_fill_s (hs i (by omega)), cp_fill_s rfl]
      exact And.intro inc (And.intro inc (nm_e (And.intro inc (And.intro inc (nm_e (nm_r (nI_1 _) hih))))))
    have end71 : ∀ z : Int32, z = ch i → (vp_nar .boolean z = z) → wY_propagate_71 post (wY_propagate_38 post h_cells h_functions h_limit h_state h_entries h_depth m) (nI (cp_nz ch i)) (nI i) z (nI i) h_cells h_functions h_limit h_state h_entries h_depth b_codeOp b_codeA b_codeB b_bodyLength b_baseValue (cp_fill b_settledValue b_baseValue i) (cp_fill b_outputValue s i) (cp_fill b_changedMark ch i) b_kinds b_subjects b_values b_store b_openFunction b_openArg b_openNext b_regs := by
      intro z ez hz
      unfold wY_propagate_71
      rw [ec, hz, cp_fill_s ez]
      have hat : cp_fill b_changedMark ch (i + 1) i = ch i := if_pos (by omega)
      refine And.intro inc (nm_e (And.intro inc ?_))
      rw [hat]
      refine br_c (fun h => ?_) (fun h => nm_r (nI_1 _) ?_)
      · refine end84 _ ?_
        rw [hnz, if_pos h]; rfl
      · refine end84 _ ?_
        rw [hnz, if_neg h]
    refine br_f (by rw [hc]; exact nI_ge (by omega) (by omega)) (And.intro inc (And.intro inc ?_))
    rw [ec, cp_fill_at, hs i (by omega)]
    refine br_c (fun h => ?_) (fun h => ?_)
    · refine end71 0 ?_ cp_nar0
      rw [hch, if_pos h]
    · refine end71 1 ?_ cp_nar1
      rw [hch, if_neg h]
theorem cp_yprop {post : Int32 → SY → Prop} {cN fN lN n : Nat} {g0 : cp_N} {st' : List cp_F} {T' : List cp_N} {ch : Nat → Int32} (hst : h_state = 1) (hc : h_cells = nI cN) (h2 : 2 ≤ cN) (h16 : cN ≤ 16) (hf1 : 0 < fN) (hf : fN ≤ 6) (hl : h_limit = nI lN) (hl1 : 8 ≤ lN) (hlN : lN ≤ 120) (hC : cp_CW (h_cells, b_bodyLength, b_codeOp, b_codeA, b_codeB) fN)
    (hk : cp_k g0 = 0) (hs : cp_s g0 = 0) (hv : cp_v g0 = b_values 0) (hr : cp_RS (h_cells, b_bodyLength, b_codeOp, b_codeA, b_codeB) b_baseValue n [cp_nf g0] [g0] st' T') (hor : (st' = [] ∧ T'.length ≤ lN) ∨ lN < T'.length) (hch : ∀ c, ch c = if cp_sto b_baseValue T' c = b_outputValue c then 0 else 1)
    (K1 : ∀ (u_entries u_depth : Int32) (w_kinds w_subjects w_values w_store w_openFunction w_openArg w_openNext w_regs : Nat → Int32), T'.length ≤ lN → u_entries = nI T'.length → cp_Tr w_kinds w_subjects w_values 0 T' → post (nI (cp_nz ch cN)) (h_cells, h_functions, h_limit, h_state, u_entries, u_depth, b_codeOp, b_codeA, b_codeB, b_bodyLength, b_baseValue, cp_fill b_settledValue b_baseValue cN, cp_fill b_outputValue (cp_sto b_baseValue T') cN, cp_fill b_changedMark ch cN, w_kinds, w_subjects, w_values, w_store, w_openFunction, w_openArg, w_openNext, w_regs))
    (K0 : ∀ (u_entries u_depth : Int32) (w_kinds w_subjects w_values w_store w_openFunction w_openArg w_openNext w_regs : Nat → Int32), lN < T'.length → post (-5) (h_cells, h_functions, h_limit, 2, u_entries, u_depth, b_codeOp, b_codeA, b_codeB, b_bodyLength, b_baseValue, b_settledValue, b_outputValue, b_changedMark, w_kinds, w_subjects, w_values, w_store, w_openFunction, w_openArg, w_openNext, w_regs)) : wpY_propagate post (h_cells, h_functions, h_limit, h_state, h_entries, h_depth, b_codeOp, b_codeA, b_codeB, b_bodyLength, b_baseValue, b_settledValue, b_outputValue, b_changedMark, b_kinds, b_subjects, b_values, b_store, b_openFunction, b_openArg, b_openNext, b_regs) := by
  refine br_t hst (nm_r hv.symm ?_)
  refine cp_yeval hc h2 h16 hf1 hf hl (by omega) hlN hC hk hs rfl hr hor ?_ ?_
  · intro u_entries u_depth w_kinds w_subjects w_values w_store w_openFunction w_openArg w_openNext w_regs _ hle hY
    refine br_f (by decide) ⟨cN + 1, ?_⟩
    have he := hY.1.2.2.2.2.2.2.1
    have := cp_yprop38 (post := post) (s := cp_sto b_baseValue T') (ch := ch) (h_functions := h_functions) (h_limit := h_limit) (h_state := h_state) (h_entries := u_entries) (h_depth := u_depth) (b_codeOp := b_codeOp) (b_codeA := b_codeA) (b_codeB := b_codeB) (b_bodyLength := b_bodyLength) (b_baseValue := b_baseValue) (b_settledValue := b_settledValue) (b_outputValue := b_outputValue) (b_changedMark := b_changedMark) (b_kinds := w_kinds) (b_subjects := w_subjects) (b_values := w_values) (b_store := w_store) (b_openFunction := w_openFunction) (b_openArg := w_openArg) (b_openNext := w_openNext) (b_regs := w_regs) hc h16 hY.2.2.1 hch (K1 u_entries u_depth w_kinds w_subjects w_values w_store w_openFunction w_openArg w_openNext w_regs hle he hY.2.1) cN 0 (cN + 1) (by omega) (by omega)
    rw [cp_fill_0, cp_fill_0, cp_fill_0] at this
    exact this
  · intro u_entries u_depth w_kinds w_subjects w_values w_store w_openFunction w_openArg w_openNext w_regs hlt
    exact br_t rfl (K0 u_entries u_depth w_kinds w_subjects w_values w_store w_openFunction w_openArg w_openNext w_regs hlt)
end
end
section
/-! ===== the relation ===== -/
def cp_Fa (cN fN lN : Nat) (f_cells f_functions f_limit f_status f_freeCount f_first f_size f_heapSize f_depth f_cur f_inserted f_overflowed : Int32) (a_bodySizes a_opAt a_aAt a_bAt a_baseValue a_settledValue a_outputValue a_changedMark a_cellHead a_cellTail a_kindOf a_subjectOf a_valueOf a_labelOf a_nextOf a_ownerOf a_leaveOf a_pcOf a_snapshot a_cellPrev a_cellNext a_sourceOf a_alive a_queued a_free a_nodeAt a_indexOf a_heap a_frameEnter a_framePc a_frameZone a_frameWait a_frameRegs : Nat → Int32) (h_entries h_depth : Int32) (b_kinds b_subjects b_values b_store b_openFunction b_openArg b_openNext b_regs : Nat → Int32) : Prop :=
  (2 ≤ cN ∧ cN ≤ 16 ∧ 0 < fN ∧ fN ≤ 6 ∧ 8 ≤ lN ∧ lN ≤ 120) ∧ cp_CW (f_cells, a_bodySizes, a_opAt, a_aAt, a_bAt) fN ∧ (∀ c, a_changedMark c = 0 ∨ a_changedMark c = 1) ∧
  (f_status = 1 → ∃ fc g0 W, cp_LX cN fN lN fc g0 W f_cells f_functions f_limit f_status f_freeCount f_first f_size f_heapSize f_depth f_cur f_inserted f_overflowed a_bodySizes a_opAt a_aAt a_bAt a_baseValue a_settledValue a_outputValue a_changedMark a_cellHead a_cellTail a_kindOf a_subjectOf a_valueOf a_labelOf a_nextOf a_ownerOf a_leaveOf a_pcOf a_snapshot a_cellPrev a_cellNext a_sourceOf a_alive a_queued a_free a_nodeAt a_indexOf a_heap a_frameEnter a_framePc a_frameZone a_frameWait a_frameRegs ∧ (∀ a g b, g0 :: W = a ++ g :: b → cp_k g = 1 → cp_v g = cp_sto a_settledValue a (cp_s g)) ∧ h_entries = nI (g0 :: W).length ∧ cp_Tr b_kinds b_subjects b_values 0 (g0 :: W))
/-- the two states show the same program, cells, marks and, if live, the same finished trace -/
def i_Rel (k : Nat) (u : SX) (v : SY) : Prop := match u, v with
  | (f_cells, f_functions, f_limit, f_status, f_freeCount, f_first, f_size, f_heapSize, f_depth, f_cur, f_inserted, f_overflowed, a_bodySizes, a_opAt, a_aAt, a_bAt, a_baseValue, a_settledValue, a_outputValue, a_changedMark, a_cellHead, a_cellTail, a_kindOf, a_subjectOf, a_valueOf, a_labelOf, a_nextOf, a_ownerOf, a_leaveOf, a_pcOf, a_snapshot, a_cellPrev, a_cellNext, a_sourceOf, a_alive, a_queued, a_free, a_nodeAt, a_indexOf, a_heap, a_frameEnter, a_framePc, a_frameZone, a_frameWait, a_frameRegs), (h_cells, h_functions, h_limit, h_state, h_entries, h_depth, b_codeOp, b_codeA, b_codeB, b_bodyLength, b_baseValue, b_settledValue, b_outputValue, b_changedMark, b_kinds, b_subjects, b_values, b_store, b_openFunction, b_openArg, b_openNext, b_regs) => ∃ cN fN lN, (f_cells = nI cN ∧ f_functions = nI fN ∧ f_limit = nI lN ∧ h_cells = nI cN ∧ h_functions = nI fN ∧ h_limit = nI lN ∧ h_state = f_status ∧ b_codeOp = a_opAt ∧ b_codeA = a_aAt ∧ b_codeB = a_bAt ∧ b_bodyLength = a_bodySizes ∧ b_baseValue = a_baseValue ∧ b_settledValue = a_settledValue ∧ b_outputValue = a_outputValue ∧ b_changedMark = a_changedMark) ∧ cp_Fa cN fN lN f_cells f_functions f_limit f_status f_freeCount f_first f_size f_heapSize f_depth f_cur f_inserted f_overflowed a_bodySizes a_opAt a_aAt a_bAt a_baseValue a_settledValue a_outputValue a_changedMark a_cellHead a_cellTail a_kindOf a_subjectOf a_valueOf a_labelOf a_nextOf a_ownerOf a_leaveOf a_pcOf a_snapshot a_cellPrev a_cellNext a_sourceOf a_alive a_queued a_free a_nodeAt a_indexOf a_heap a_frameEnter a_framePc a_frameZone a_frameWait a_frameRegs h_entries h_depth b_kinds b_subjects b_values b_store b_openFunction b_openArg b_openNext b_regs
theorem cp_el {k : Nat} {u : SX} {v : SY} {P : SX → SY → Prop} (h : ∀ (f_cells f_functions f_limit f_status f_freeCount f_first f_size f_heapSize f_depth f_cur f_inserted f_overflowed : Int32) (a_bodySizes a_opAt a_aAt a_bAt a_baseValue a_settledValue a_outputValue a_changedMark a_cellHead a_cellTail a_kindOf a_subjectOf a_valueOf a_labelOf a_nextOf a_ownerOf a_leaveOf a_pcOf a_snapshot a_cellPrev a_cellNext a_sourceOf a_alive a_queued a_free a_nodeAt a_indexOf a_heap a_frameEnter a_framePc a_frameZone a_frameWait a_frameRegs : Nat → Int32) (h_entries h_depth : Int32) (b_kinds b_subjects b_values b_store b_openFunction b_openArg b_openNext b_regs : Nat → Int32) (cN fN lN : Nat), cp_Fa cN fN lN (nI cN) (nI fN) (nI lN) f_status f_freeCount f_first f_size f_heapSize f_depth f_cur f_inserted f_overflowed a_bodySizes a_opAt a_aAt a_bAt a_baseValue a_settledValue a_outputValue a_changedMark a_cellHead a_cellTail a_kindOf a_subjectOf a_valueOf a_labelOf a_nextOf a_ownerOf a_leaveOf a_pcOf a_snapshot a_cellPrev a_cellNext a_sourceOf a_alive a_queued a_free a_nodeAt a_indexOf a_heap a_frameEnter a_framePc a_frameZone a_frameWait a_frameRegs h_entries h_depth b_kinds b_subjects b_values b_store b_openFunction b_openArg b_openNext b_regs → P (nI cN, nI fN, nI lN, f_status, f_freeCount, f_first, f_size, f_heapSize, f_depth, f_cur, f_inserted, f_overflowed, a_bodySizes, a_opAt, a_aAt, a_bAt, a_baseValue, a_settledValue, a_outputValue, a_changedMark, a_cellHead, a_cellTail, a_kindOf, a_subjectOf, a_valueOf, a_labelOf, a_nextOf, a_ownerOf, a_leaveOf, a_pcOf, a_snapshot, a_cellPrev, a_cellNext, a_sourceOf, a_alive, a_queued, a_free, a_nodeAt, a_indexOf, a_heap, a_frameEnter, a_framePc, a_frameZone, a_frameWait, a_frameRegs) (nI cN, nI fN, nI lN, f_status, h_entries, h_depth, a_opAt, a_aAt, a_bAt, a_bodySizes, a_baseValue, a_settledValue, a_outputValue, a_changedMark, b_kinds, b_subjects, b_values, b_store, b_openFunction, b_openArg, b_openNext, b_regs)) (I : i_Rel k u v) : P u v := by
  match u, v, I with
  | (f_cells, f_functions, f_limit, f_status, f_freeCount, f_first, f_size, f_heapSize, f_depth, f_cur, f_inserted, f_overflowed, a_bodySizes, a_opAt, a_aAt, a_bAt, a_baseValue, a_settledValue, a_outputValue, a_changedMark, a_cellHead, a_cellTail, a_kindOf, a_subjectOf, a_valueOf, a_labelOf, a_nextOf, a_ownerOf, a_leaveOf, a_pcOf, a_snapshot, a_cellPrev, a_cellNext, a_sourceOf, a_alive, a_queued, a_free, a_nodeAt, a_indexOf, a_heap, a_frameEnter, a_framePc, a_frameZone, a_frameWait, a_frameRegs), (h_cells, h_functions, h_limit, h_state, h_entries, h_depth, b_codeOp, b_codeA, b_codeB, b_bodyLength, b_baseValue, b_settledValue, b_outputValue, b_changedMark, b_kinds, b_subjects, b_values, b_store, b_openFunction, b_openArg, b_openNext, b_regs), ⟨cN, fN, lN, ⟨e1, e2, e3, e4, e5, e6, e7, e8, e9, e10, e11, e12, e13, e14, e15⟩, hF⟩ =>
    subst e1 e2 e3 e4 e5 e6 e7 e8 e9 e10 e11 e12 e13 e14 e15
    exact h (nI cN) (nI fN) (nI lN) _ _ _ _ _ _ _ _ _ _ _ _ _ _ _ _ _ _ _ _ _ _ _ _ _ _ _ _ _ _ _ _ _ _ _ _ _ _ _ _ _ _ _ _ _ _ _ _ _ _ _ _ cN fN lN hF
section
variable {f_cells f_functions f_limit f_status f_freeCount f_first f_size f_heapSize f_depth f_cur f_inserted f_overflowed : Int32} {a_bodySizes a_opAt a_aAt a_bAt a_baseValue a_settledValue a_outputValue a_changedMark a_cellHead a_cellTail a_kindOf a_subjectOf a_valueOf a_labelOf a_nextOf a_ownerOf a_leaveOf a_pcOf a_snapshot a_cellPrev a_cellNext a_sourceOf a_alive a_queued a_free a_nodeAt a_indexOf a_heap a_frameEnter a_framePc a_frameZone a_frameWait a_frameRegs : Nat → Int32}
variable {h_cells h_functions h_limit h_state h_entries h_depth : Int32} {b_kinds b_subjects b_values b_store b_openFunction b_openArg b_openNext b_regs : Nat → Int32} {cN fN lN : Nat}
theorem cp_in {k : Nat} (h : cp_Fa cN fN lN (nI cN) (nI fN) (nI lN) f_status f_freeCount f_first f_size f_heapSize f_depth f_cur f_inserted f_overflowed a_bodySizes a_opAt a_aAt a_bAt a_baseValue a_settledValue a_outputValue a_changedMark a_cellHead a_cellTail a_kindOf a_subjectOf a_valueOf a_labelOf a_nextOf a_ownerOf a_leaveOf a_pcOf a_snapshot a_cellPrev a_cellNext a_sourceOf a_alive a_queued a_free a_nodeAt a_indexOf a_heap a_frameEnter a_framePc a_frameZone a_frameWait a_frameRegs h_entries h_depth b_kinds b_subjects b_values b_store b_openFunction b_openArg b_openNext b_regs) : i_Rel k (nI cN, nI fN, nI lN, f_status, f_freeCount, f_first, f_size, f_heapSize, f_depth, f_cur, f_inserted, f_overflowed, a_bodySizes, a_opAt, a_aAt, a_bAt, a_baseValue, a_settledValue, a_outputValue, a_changedMark, a_cellHead, a_cellTail, a_kindOf, a_subjectOf, a_valueOf, a_labelOf, a_nextOf, a_ownerOf, a_leaveOf, a_pcOf, a_snapshot, a_cellPrev, a_cellNext, a_sourceOf, a_alive, a_queued, a_free, a_nodeAt, a_indexOf, a_heap, a_frameEnter, a_framePc, a_frameZone, a_frameWait, a_frameRegs) (nI cN, nI fN, nI lN, f_status, h_entries, h_depth, a_opAt, a_aAt, a_bAt, a_bodySizes, a_baseValue, a_settledValue, a_outputValue, a_changedMark, b_kinds, b_subjects, b_values, b_store, b_openFunction, b_openArg, b_openNext, b_regs) := ⟨cN, fN, lN, ⟨rfl, rfl, rfl, rfl, rfl, rfl, rfl, rfl, rfl, rfl, rfl, rfl, rfl, rfl, rfl⟩, h⟩
end
theorem i_up {k : Nat} {u : SX} {v : SY} (h : i_Rel k u v) : i_Rel (k + 5) u v := h
def cp_cl (x a b : Int32) : Int32 := if a ≤ x then (if x ≤ b then x else b) else a
theorem cp_cl_in {a b : Nat} (hab : a ≤ b) (hb : b < 2 ^ 31) (x : Int32) : ∃ n, a ≤ n ∧ n ≤ b ∧ cp_cl x (nI a) (nI b) = nI n := by
  unfold cp_cl
  split
  · rename_i h1
    split
    · rename_i h2
      have h0 : ¬ x < 0 := by
        rw [Int32.le_iff_toInt_le, nI_toInt (by omega)] at h1
        rw [Int32.lt_iff_toInt_lt, Int32.toInt_zero]
        omega
      obtain ⟨j, hj, rfl⟩ := nI_of h0
      rw [nI_leI (by omega) hj] at h1
      rw [nI_leI hj (by omega)] at h2
      exact ⟨j, h1, h2, rfl⟩
    · exact ⟨b, hab, Nat.le_refl _, rfl⟩
  · exact ⟨a, Nat.le_refl _, hab, rfl⟩
theorem cp_br_cl {post : Int32 → Prop} {p0 p1 p2 : Int32} (K : post (cp_cl p0 p1 p2)) : ((p1 ≤ p0 → (((p0 ≤ p2 → (post p0)) ∧ (¬ p0 ≤ p2 → (post p2))))) ∧ (¬ p1 ≤ p0 → (post p1))) := by
  unfold cp_cl at K
  by_cases h1 : p1 ≤ p0
  · rw [if_pos h1] at K
    by_cases h2 : p0 ≤ p2
    · rw [if_pos h2] at K; exact br_t h1 (br_t h2 K)
    · rw [if_neg h2] at K; exact br_t h1 (br_f h2 K)
  · rw [if_neg h1] at K; exact br_f h1 K
section
variable {f_cells f_functions f_limit f_status f_freeCount f_first f_size f_heapSize f_depth f_cur f_inserted f_overflowed : Int32} {a_bodySizes a_opAt a_aAt a_bAt a_baseValue a_settledValue a_outputValue a_changedMark a_cellHead a_cellTail a_kindOf a_subjectOf a_valueOf a_labelOf a_nextOf a_ownerOf a_leaveOf a_pcOf a_snapshot a_cellPrev a_cellNext a_sourceOf a_alive a_queued a_free a_nodeAt a_indexOf a_heap a_frameEnter a_framePc a_frameZone a_frameWait a_frameRegs : Nat → Int32}
theorem cp_xclamp {post : Int32 → Prop} {p0 p1 p2 : Int32} (K : post (cp_cl p0 p1 p2)) : wpX_clamp post (f_cells, f_functions, f_limit, f_status, f_freeCount, f_first, f_size, f_heapSize, f_depth, f_cur, f_inserted, f_overflowed, a_bodySizes, a_opAt, a_aAt, a_bAt, a_baseValue, a_settledValue, a_outputValue, a_changedMark, a_cellHead, a_cellTail, a_kindOf, a_subjectOf, a_valueOf, a_labelOf, a_nextOf, a_ownerOf, a_leaveOf, a_pcOf, a_snapshot, a_cellPrev, a_cellNext, a_sourceOf, a_alive, a_queued, a_free, a_nodeAt, a_indexOf, a_heap, a_frameEnter, a_framePc, a_frameZone, a_frameWait, a_frameRegs) p0 p1 p2 := cp_br_cl K
end
section
variable {h_cells h_functions h_limit h_state h_entries h_depth : Int32} {b_codeOp b_codeA b_codeB b_bodyLength b_baseValue b_settledValue b_outputValue b_changedMark b_kinds b_subjects b_values b_store b_openFunction b_openArg b_openNext b_regs : Nat → Int32}
theorem cp_yclamp {post : Int32 → Prop} {p0 p1 p2 : Int32} (K : post (cp_cl p0 p1 p2)) : wpY_clamp post (h_cells, h_functions, h_limit, h_state, h_entries, h_depth, b_codeOp, b_codeA, b_codeB, b_bodyLength, b_baseValue, b_settledValue, b_outputValue, b_changedMark, b_kinds, b_subjects, b_values, b_store, b_openFunction, b_openArg, b_openNext, b_regs) p0 p1 p2 := cp_br_cl K
end
theorem cp_bz0 (c : Int32) (x y z : Nat → Int32) (f : Nat) : cp_bz (c, (fun _ => 0), x, y, z) f = 0 := by
  show (0 : Int32).toNatClampNeg = 0
  decide
theorem i_vc0 (k0 : Int32) (k1 : Int32) (k2 : Int32) : wpX_init (fun u => wpY_init (fun v => i_Rel 3 u v) k0 k1 k2) k0 k1 k2 := by
  obtain ⟨cN, hc1, hc2, ec⟩ := cp_cl_in (a := 2) (b := 16) (by decide) (by decide) k0
  obtain ⟨fN, hf1, hf2, ef⟩ := cp_cl_in (a := 1) (b := 6) (by decide) (by decide) k1
  obtain ⟨lN, hl1, hl2, el⟩ := cp_cl_in (a := 8) (b := 120) (by decide) (by decide) k2
  unfold wpX_init
  refine cp_xclamp ?_
  refine cp_xclamp ?_
  refine cp_xclamp ?_
  refine cp_clear (fun al' qd' fr' hd' tl' _ _ => ?_)
  show wpY_init _ k0 k1 k2
  unfold wpY_init
  refine cp_yclamp ?_
  refine cp_yclamp ?_
  refine cp_yclamp ?_
  refine ⟨cN, fN, lN, ⟨ec, ef, el, ec, ef, el, rfl, rfl, rfl, rfl, rfl, rfl, rfl, rfl, rfl⟩, ⟨hc1, hc2, hf1, hf2, hl1, hl2⟩, fun f hf => ?_, fun c => Or.inl rfl, fun h => absurd h (by decide)⟩
  rw [cp_bz0]
  exact ⟨rfl, Nat.zero_le _, fun i hi => by omega⟩
end
section
/-! ===== the calls that need no evaluation ===== -/
def cp_okB (op b : Int32) : Prop := (op = 0 ∨ op = 6) ∨ (op = 7 ∧ ¬ b < 1 ∧ ¬ 15 < b) ∨ (¬ op = 0 ∧ ¬ op = 6 ∧ ¬ op = 7 ∧ ¬ b < 0 ∧ ¬ 4 ≤ b)
theorem cp_3 (b : Int32) : b ≤ 3 ↔ ¬ 4 ≤ b := by
  rw [Int32.le_iff_toInt_le, Int32.le_iff_toInt_le, show (3 : Int32).toInt = 3 by decide, show (4 : Int32).toInt = 4 by decide]; omega
theorem cp_15 (b : Int32) : b ≤ 15 ↔ ¬ 15 < b := Int32.not_lt.symm
theorem cp_ge (a b : Int32) : a ≤ b ↔ ¬ b < a := Int32.not_lt.symm
theorem cp_CW_emit {cl : Int32} {bs oa aa ba : Nat → Int32} {fN f cnt o : Nat} {a b : Int32} (h : cp_CW (cl, bs, oa, aa, ba) fN) (hf : f < fN) (hc : bs f = nI cnt) (hcnt : cnt < 16) (ho : o ≤ 10) (ha10 : nI o = 10 → ∃ q, q < fN ∧ a = nI q) (ha : ¬ nI o = 10 → ∃ q, q < 4 ∧ a = nI q) (hb7 : nI o = 7 → ∃ q, q ≤ 15 ∧ b = nI q)
    (hb : ¬ nI o = 0 → ¬ nI o = 6 → ¬ nI o = 7 → ∃ q, q < 4 ∧ b = nI q) : cp_CW (cl, upd bs f (nI (cnt + 1)), upd oa (f * 16 + cnt) (nI o), upd aa (f * 16 + cnt) a, upd ba (f * 16 + cnt) b) fN := by
  intro e he
  obtain ⟨h1, h2, h3⟩ := h e he
  by_cases hef : e = f
  · subst hef
    have hz : cp_bz (cl, upd bs e (nI (cnt + 1)), upd oa (e * 16 + cnt) (nI o), upd aa (e * 16 + cnt) a, upd ba (e * 16 + cnt) b) e = cnt + 1 := by
      show (upd bs e (nI (cnt + 1)) e).toNatClampNeg = _
      rw [pk_us, nI_clamp (by omega)]
    have hz0 : cp_bz (cl, bs, oa, aa, ba) e = cnt := by
      show (bs e).toNatClampNeg = _
      rw [hc, nI_clamp (by omega)]
    rw [hz]
    refine ⟨pk_us, by omega, fun i hi => ?_⟩
    by_cases hic : i = cnt
    · subst hic
      show (∃ o', o' ≤ 10 ∧ upd oa (e * 16 + i) (nI o) (e * 16 + i) = nI o') ∧ (upd oa (e * 16 + i) (nI o) (e * 16 + i) = 10 → ∃ q, q < fN ∧ upd aa (e * 16 + i) a (e * 16 + i) = nI q) ∧ (¬ upd oa (e * 16 + i) (nI o) (e * 16 + i) = 10 → ∃ q, q < 4 ∧ upd aa (e * 16 + i) a (e * 16 + i) = nI q) ∧ (upd oa (e * 16 + i) (nI o) (e * 16 + i) = 7 → ∃ q, q ≤ 15 ∧ upd ba (e * 16 + i) b (e * 16 + i) = nI q) ∧ (¬ upd oa (e * 16 + i) (nI o) (e * 16 + i) = 0 → ¬ upd oa (e * 16 + i) (nI o) (e * 16 + i) = 6 → ¬ upd oa (e * 16 + i) (nI o) (e * 16 + i) = 7 → ∃ q, q < 4 ∧ upd ba (e * 16 + i) b (e * 16 + i) = nI q)
      rw [pk_us, pk_us, pk_us]
      exact ⟨⟨o, ho, rfl⟩, ha10, ha, hb7, hb⟩
    · have := h3 i (by rw [hz0]; omega)
      show (∃ o', o' ≤ 10 ∧ upd oa (e * 16 + cnt) (nI o) (e * 16 + i) = nI o') ∧ (upd oa (e * 16 + cnt) (nI o) (e * 16 + i) = 10 → ∃ q, q < fN ∧ upd aa (e * 16 + cnt) a (e * 16 + i) = nI q) ∧ (¬ upd oa (e * 16 + cnt) (nI o) (e * 16 + i) = 10 → ∃ q, q < 4 ∧ upd aa (e * 16 + cnt) a (e * 16 + i) = nI q) ∧ (upd oa (e * 16 + cnt) (nI o) (e * 16 + i) = 7 → ∃ q, q ≤ 15 ∧ upd ba (e * 16 + cnt) b (e * 16 + i) = nI q) ∧ (¬ upd oa (e * 16 + cnt) (nI o) (e * 16 + i) = 0 → ¬ upd oa (e * 16 + cnt) (nI o) (e * 16 + i) = 6 → ¬ upd oa (e * 16 + cnt) (nI o) (e * 16 + i) = 7 → ∃ q, q < 4 ∧ upd ba (e * 16 + cnt) b (e * 16 + i) = nI q)
      rw [pk_un (by omega), pk_un (by omega), pk_un (by omega)]
      exact this
  · have hz : cp_bz (cl, upd bs f (nI (cnt + 1)), upd oa (f * 16 + cnt) (nI o), upd aa (f * 16 + cnt) a, upd ba (f * 16 + cnt) b) e = cp_bz (cl, bs, oa, aa, ba) e := by
      show (upd bs f (nI (cnt + 1)) e).toNatClampNeg = (bs e).toNatClampNeg
      rw [pk_un hef]
    rw [hz]
    refine ⟨?_, h2, fun i hi => ?_⟩
    · show upd bs f (nI (cnt + 1)) e = _
      rw [pk_un hef]; exact h1
    · have := h3 i hi
      show (∃ o', o' ≤ 10 ∧ upd oa (f * 16 + cnt) (nI o) (e * 16 + i) = nI o') ∧ (upd oa (f * 16 + cnt) (nI o) (e * 16 + i) = 10 → ∃ q, q < fN ∧ upd aa (f * 16 + cnt) a (e * 16 + i) = nI q) ∧ (¬ upd oa (f * 16 + cnt) (nI o) (e * 16 + i) = 10 → ∃ q, q < 4 ∧ upd aa (f * 16 + cnt) a (e * 16 + i) = nI q) ∧ (upd oa (f * 16 + cnt) (nI o) (e * 16 + i) = 7 → ∃ q, q ≤ 15 ∧ upd ba (f * 16 + cnt) b (e * 16 + i) = nI q) ∧ (¬ upd oa (f * 16 + cnt) (nI o) (e * 16 + i) = 0 → ¬ upd oa (f * 16 + cnt) (nI o) (e * 16 + i) = 6 → ¬ upd oa (f * 16 + cnt) (nI o) (e * 16 + i) = 7 → ∃ q, q < 4 ∧ upd ba (f * 16 + cnt) b (e * 16 + i) = nI q)
      rw [pk_un (by omega), pk_un (by omega), pk_un (by omega)]
      exact this
theorem cp_CW_ret {cl : Int32} {bs oa aa ba : Nat → Int32} {fN f cnt : Nat} (h : cp_CW (cl, bs, oa, aa, ba) fN) (hf : f < fN) (hc : bs f = nI (cnt + 1)) (hcnt : cnt < 16) : cp_CW (cl, upd bs f (nI cnt), oa, aa, ba) fN := by
  intro e he
  obtain ⟨h1, h2, h3⟩ := h e he
  by_cases hef : e = f
  · subst hef
    have hz : cp_bz (cl, upd bs e (nI cnt), oa, aa, ba) e = cnt := by
      show (upd bs e (nI cnt) e).toNatClampNeg = _
      rw [pk_us, nI_clamp (by omega)]
    have hz0 : cp_bz (cl, bs, oa, aa, ba) e = cnt + 1 := by
      show (bs e).toNatClampNeg = _
      rw [hc, nI_clamp (by omega)]
    rw [hz]
    exact ⟨pk_us, by omega, fun i hi => h3 i (by rw [hz0]; omega)⟩
  · have hz : cp_bz (cl, upd bs f (nI cnt), oa, aa, ba) e = cp_bz (cl, bs, oa, aa, ba) e := by
      show (upd bs f (nI cnt) e).toNatClampNeg = (bs e).toNatClampNeg
      rw [pk_un hef]
    rw [hz]
    refine ⟨?_, h2, h3⟩
    show upd bs f (nI cnt) e = _
    rw [pk_un hef]; exact h1
section
variable {f_cells f_functions f_limit f_status f_freeCount f_first f_size f_heapSize f_depth f_cur f_inserted f_overflowed : Int32} {a_bodySizes a_opAt a_aAt a_bAt a_baseValue a_settledValue a_outputValue a_changedMark a_cellHead a_cellTail a_kindOf a_subjectOf a_valueOf a_labelOf a_nextOf a_ownerOf a_leaveOf a_pcOf a_snapshot a_cellPrev a_cellNext a_sourceOf a_alive a_queued a_free a_nodeAt a_indexOf a_heap a_frameEnter a_framePc a_frameZone a_frameWait a_frameRegs : Nat → Int32}
theorem cp_fbf {post : Int32 → Prop} {op b : Int32} (K1 : cp_okB op b → post 1) (K0 : ¬ cp_okB op b → post 0) : wpX_fieldBFits post (f_cells, f_functions, f_limit, f_status, f_freeCount, f_first, f_size, f_heapSize, f_depth, f_cur, f_inserted, f_overflowed, a_bodySizes, a_opAt, a_aAt, a_bAt, a_baseValue, a_settledValue, a_outputValue, a_changedMark, a_cellHead, a_cellTail, a_kindOf, a_subjectOf, a_valueOf, a_labelOf, a_nextOf, a_ownerOf, a_leaveOf, a_pcOf, a_snapshot, a_cellPrev, a_cellNext, a_sourceOf, a_alive, a_queued, a_free, a_nodeAt, a_indexOf, a_heap, a_frameEnter, a_framePc, a_frameZone, a_frameWait, a_frameRegs) op b := by
  refine br_c (fun h0 => K1 (Or.inl (Or.inl h0))) (fun h0 => br_c (fun h6 => K1 (Or.inl (Or.inr h6))) (fun h6 => br_c (fun h7 => br_c (fun a => K0 ?_) (fun a => br_c (fun c => K0 ?_) (fun c => K1 (Or.inr (Or.inl ⟨h7, a, c⟩))))) (fun h7 => br_c (fun a => K0 ?_) (fun a => br_c (fun c => K0 ?_) (fun c => K1 (Or.inr (Or.inr ⟨h0, h6, h7, a, c⟩)))))))
  all_goals
    rintro ((h | h) | ⟨h, h', h''⟩ | ⟨_, _, h, h', h''⟩)
  · exact h0 h
  · exact h6 h
  · exact h' a
  · exact h h7
  · exact h0 h
  · exact h6 h
  · exact h'' c
  · exact h h7
  · exact h0 h
  · exact h6 h
  · exact h7 h
  · exact h' a
  · exact h0 h
  · exact h6 h
  · exact h7 h
  · exact h'' c
end
section
variable {h_cells h_functions h_limit h_state h_entries h_depth : Int32} {b_codeOp b_codeA b_codeB b_bodyLength b_baseValue b_settledValue b_outputValue b_changedMark b_kinds b_subjects b_values b_store b_openFunction b_openArg b_openNext b_regs : Nat → Int32}
theorem cp_y60 {post : Int32 → SY → Prop} {x1 op x3 b : Int32} (K1 : cp_okB op b → wY_emit_104 post x1 op x3 b h_cells h_functions h_limit h_state h_entries h_depth b_codeOp b_codeA b_codeB b_bodyLength b_baseValue b_settledValue b_outputValue b_changedMark b_kinds b_subjects b_values b_store b_openFunction b_openArg b_openNext b_regs) (K0 : ¬ cp_okB op b → post (-1) (h_cells, h_functions, h_limit, h_state, h_entries, h_depth, b_codeOp, b_codeA, b_codeB, b_bodyLength, b_baseValue, b_settledValue, b_outputValue, b_changedMark, b_kinds, b_subjects, b_values, b_store, b_openFunction, b_openArg, b_openNext, b_regs)) : wY_emit_60 post x1 op x3 b h_cells h_functions h_limit h_state h_entries h_depth b_codeOp b_codeA b_codeB b_bodyLength b_baseValue b_settledValue b_outputValue b_changedMark b_kinds b_subjects b_values b_store b_openFunction b_openArg b_openNext b_regs := by
  refine br_c (fun h7 => br_c (fun a => K0 ?_) (fun a => br_c (fun c => K1 (Or.inr (Or.inl ⟨h7, a, (cp_15 b).mp c⟩))) (fun c => K0 ?_))) (fun h7 => br_c (fun h0 => K1 (Or.inl (Or.inl h0))) (fun h0 => br_c (fun h6 => K1 (Or.inl (Or.inr h6))) (fun h6 => br_c (fun a => K0 ?_) (fun a => br_c (fun c => K1 (Or.inr (Or.inr ⟨h0, h6, h7, a, (cp_3 b).mp c⟩))) (fun c => K0 ?_)))))
  all_goals
    rintro ((h | h) | ⟨h, h', h''⟩ | ⟨_, _, h, h', h''⟩)
  · rw [h] at h7; exact absurd h7 (by decide)
  · rw [h] at h7; exact absurd h7 (by decide)
  · exact h' a
  · exact h h7
  · rw [h] at h7; exact absurd h7 (by decide)
  · rw [h] at h7; exact absurd h7 (by decide)
  · exact c ((cp_15 b).mpr h'')
  · exact h h7
  · exact h0 h
  · exact h6 h
  · exact h7 h
  · exact h' a
  · exact h0 h
  · exact h6 h
  · exact h7 h
  · exact c ((cp_3 b).mpr h'')
theorem cp_isF {post : Int32 → Prop} {p : Int32} (K0 : p < 0 ∨ h_functions ≤ p → post 0) (K1 : ¬ p < 0 → ¬ h_functions ≤ p → post 1) : wpY_isFunction post (h_cells, h_functions, h_limit, h_state, h_entries, h_depth, b_codeOp, b_codeA, b_codeB, b_bodyLength, b_baseValue, b_settledValue, b_outputValue, b_changedMark, b_kinds, b_subjects, b_values, b_store, b_openFunction, b_openArg, b_openNext, b_regs) p :=
  br_c (fun h => K0 (Or.inl h)) (fun h => br_c (fun h' => K0 (Or.inr h')) (fun h' => K1 h h'))
theorem cp_isC {post : Int32 → Prop} {p : Int32} (K0 : p < 0 ∨ h_cells ≤ p → post 0) (K1 : ¬ p < 0 → ¬ h_cells ≤ p → post 1) : wpY_isCell post (h_cells, h_functions, h_limit, h_state, h_entries, h_depth, b_codeOp, b_codeA, b_codeB, b_bodyLength, b_baseValue, b_settledValue, b_outputValue, b_changedMark, b_kinds, b_subjects, b_values, b_store, b_openFunction, b_openArg, b_openNext, b_regs) p :=
  br_c (fun h => K0 (Or.inl h)) (fun h => br_c (fun h' => K0 (Or.inr h')) (fun h' => K1 h h'))
end
theorem i_vc_emit {k : Nat} {u : SX} {v : SY} (I : i_Rel k u v) (hk : k + 5 ≤ 2563) (v1 : Int32) (v2 : Int32) (v3 : Int32) (v4 : Int32) : wpX_emit (fun r u' => wpY_emit (fun r' v' => r' = r ∧ i_Rel (k + 5) u' v') v v1 v2 v3 v4) u v1 v2 v3 v4 := by
  refine cp_el (P := fun u v => wpX_emit (fun r u' => wpY_emit (fun r' v' => r' = r ∧ i_Rel (k + 5) u' v') v v1 v2 v3 v4) u v1 v2 v3 v4) ?_ I
  intro f_cells f_functions f_limit f_status f_freeCount f_first f_size f_heapSize f_depth f_cur f_inserted f_overflowed a_bodySizes a_opAt a_aAt a_bAt a_baseValue a_settledValue a_outputValue a_changedMark a_cellHead a_cellTail a_kindOf a_subjectOf a_valueOf a_labelOf a_nextOf a_ownerOf a_leaveOf a_pcOf a_snapshot a_cellPrev a_cellNext a_sourceOf a_alive a_queued a_free a_nodeAt a_indexOf a_heap a_frameEnter a_framePc a_frameZone a_frameWait a_frameRegs h_entries h_depth b_kinds b_subjects b_values b_store b_openFunction b_openArg b_openNext b_regs cN fN lN hF
  have hR : i_Rel (k + 5) (nI cN, nI fN, nI lN, f_status, f_freeCount, f_first, f_size, f_heapSize, f_depth, f_cur, f_inserted, f_overflowed, a_bodySizes, a_opAt, a_aAt, a_bAt, a_baseValue, a_settledValue, a_outputValue, a_changedMark, a_cellHead, a_cellTail, a_kindOf, a_subjectOf, a_valueOf, a_labelOf, a_nextOf, a_ownerOf, a_leaveOf, a_pcOf, a_snapshot, a_cellPrev, a_cellNext, a_sourceOf, a_alive, a_queued, a_free, a_nodeAt, a_indexOf, a_heap, a_frameEnter, a_framePc, a_frameZone, a_frameWait, a_frameRegs) (nI cN, nI fN, nI lN, f_status, h_entries, h_depth, a_opAt, a_aAt, a_bAt, a_bodySizes, a_baseValue, a_settledValue, a_outputValue, a_changedMark, b_kinds, b_subjects, b_values, b_store, b_openFunction, b_openArg, b_openNext, b_regs) := cp_in hF
  obtain ⟨⟨g1, g2, g3, g4, g5, g6⟩, hC, hch, hL⟩ := hF
  by_cases h1 : f_status = 1
  · exact br_t h1 (br_t h1 ⟨rfl, hR⟩)
  refine br_f h1 ?_
  rcases pk_ix v1 (n := fN) (by omega) with h2 | h2 | ⟨f, hf, rfl⟩
  · exact br_t h2 (br_f h1 (cp_isF (fun _ => br_t rfl ⟨rfl, hR⟩) (fun a _ => absurd h2 a)))
  · by_cases h2' : v1 < 0
    · exact br_t h2' (br_f h1 (cp_isF (fun _ => br_t rfl ⟨rfl, hR⟩) (fun a _ => absurd h2' a)))
    · exact br_f h2' (br_f (fun a => (cp_ge _ _).mp h2 a) (br_f h1 (cp_isF (fun _ => br_t rfl ⟨rfl, hR⟩) (fun _ a => absurd h2 a))))
  have hf0 : ¬ nI f < 0 := nI_pos (by omega)
  have hff : ¬ nI fN ≤ nI f := nI_ge hf (by omega)
  refine br_f hf0 (br_t (nI_lt hf (by omega)) ?_)
  have Y1 : ∀ {A : Int32 → Prop}, A 1 → wpY_isFunction A (nI cN, nI fN, nI lN, f_status, h_entries, h_depth, a_opAt, a_aAt, a_bAt, a_bodySizes, a_baseValue, a_settledValue, a_outputValue, a_changedMark, b_kinds, b_subjects, b_values, b_store, b_openFunction, b_openArg, b_openNext, b_regs) (nI f) := fun h => cp_isF (fun o => (o.elim hf0 hff).elim) (fun _ _ => h)
  by_cases h4 : v2 < 0
  · exact br_t h4 (br_f h1 (Y1 (br_f (by decide) (br_t h4 ⟨rfl, hR⟩))))
  refine br_f h4 ?_
  by_cases h5 : v2 ≤ 10
  case neg => exact br_f h5 (br_f h1 (Y1 (br_f (by decide) (br_f h4 (br_f h5 ⟨rfl, hR⟩)))))
  refine br_t h5 ?_
  obtain ⟨o, ho, rfl⟩ := nI_of2 (M := 10) (n := 10) (by decide) h4 h5
  obtain ⟨hb1, hb2, _⟩ := hC f hf
  have hb1' : a_bodySizes f = nI (cp_bz (nI cN, a_bodySizes, a_opAt, a_aAt, a_bAt) f) := hb1
  generalize cp_bz (nI cN, a_bodySizes, a_opAt, a_aAt, a_bAt) f = cnt at hb1' hb2
  have inf : vp_in (nI f) 6 := vp_in_nI (by omega) (by decide)
  have ef : (nI f).toNatClampNeg = f := nI_clamp (by omega)
  have e16 : nI f * 16 + nI cnt = nI (f * 16 + cnt) := by rw [← nI_add, ← pk_mul]; rfl
  have okb7 : cp_okB (nI o) v4 → nI o = 7 → ∃ q, q ≤ 15 ∧ v4 = nI q := by
    rintro ((h | h) | ⟨_, h', h''⟩ | ⟨_, _, h, _⟩) h7
    · rw [h] at h7; exact absurd h7 (by decide)
    · rw [h] at h7; exact absurd h7 (by decide)
    · have h0 : ¬ v4 < 0 := fun a => h' (Int32.lt_trans a (by decide))
      exact nI_of2 (M := 15) (n := 15) (by decide) h0 ((cp_15 v4).mpr h'')
    · exact absurd h7 h
  have okb : cp_okB (nI o) v4 → ¬ nI o = 0 → ¬ nI o = 6 → ¬ nI o = 7 → ∃ q, q < 4 ∧ v4 = nI q := by
    rintro ((h | h) | ⟨h, _⟩ | ⟨_, _, _, h', h''⟩) a0 a6 a7
    · exact absurd h a0
    · exact absurd h a6
    · exact absurd h a7
    · obtain ⟨q, hq, e⟩ := nI_of2 (M := 3) (n := 3) (by decide) h' ((cp_3 v4).mpr h'')
      exact ⟨q, by omega, e⟩
  have main : (nI o = 10 → ∃ q, q < fN ∧ v3 = nI q) → (¬ nI o = 10 → ∃ q, q < 4 ∧ v3 = nI q) →
      (∀ post : Int32 → SY → Prop, wY_emit_60 post (nI f) (nI o) v3 v4 (nI cN) (nI fN) (nI lN) f_status h_entries h_depth a_opAt a_aAt a_bAt a_bodySizes a_baseValue a_settledValue a_outputValue a_changedMark b_kinds b_subjects b_values b_store b_openFunction b_openArg b_openNext b_regs → wpY_emit post (nI cN, nI fN, nI lN, f_status, h_entries, h_depth, a_opAt, a_aAt, a_bAt, a_bodySizes, a_baseValue, a_settledValue, a_outputValue, a_changedMark, b_kinds, b_subjects, b_values, b_store, b_openFunction, b_openArg, b_openNext, b_regs) (nI f) (nI o) v3 v4) →
      ∀ x5 : Int32, ¬ v3 < 0 → v3 < x5 → wX_emit_52 (fun r u' => wpY_emit (fun r' v' => r' = r ∧ i_Rel (k + 5) u' v') (nI cN, nI fN, nI lN, f_status, h_entries, h_depth, a_opAt, a_aAt, a_bAt, a_bodySizes, a_baseValue, a_settledValue, a_outputValue, a_changedMark, b_kinds, b_subjects, b_values, b_store, b_openFunction, b_openArg, b_openNext, b_regs) (nI f) (nI o) v3 v4) (nI f) (nI o) v3 v4 x5 (nI cN) (nI fN) (nI lN) f_status f_freeCount f_first f_size f_heapSize f_depth f_cur f_inserted f_overflowed a_bodySizes a_opAt a_aAt a_bAt a_baseValue a_settledValue a_outputValue a_changedMark a_cellHead a_cellTail a_kindOf a_subjectOf a_valueOf a_labelOf a_nextOf a_ownerOf a_leaveOf a_pcOf a_snapshot a_cellPrev a_cellNext a_sourceOf a_alive a_queued a_free a_nodeAt a_indexOf a_heap a_frameEnter a_framePc a_frameZone a_frameWait a_frameRegs := by
    intro ha10 ha hY x5 hv0 hv5
    unfold wX_emit_52
    refine br_f hv0 (br_t hv5 ?_)
    refine cp_fbf (fun hok => br_f (by decide) (And.intro inf ?_)) (fun hok => br_t rfl (hY _ (cp_y60 (fun h => absurd h hok) (fun _ => ⟨rfl, hR⟩))))
    rw [ef]
    refine nm_r hb1' ?_
    by_cases hcn : cnt < 16
    · have hlt : nI cnt < 16 := nI_lt (b := 16) hcn (by decide)
      have ins_ : vp_in (nI (f * 16 + cnt)) 96 := vp_in_nI (by omega) (by decide)
      have es : (nI (f * 16 + cnt)).toNatClampNeg = f * 16 + cnt := nI_clamp (by omega)
      refine br_t hlt (nm_r e16 ?_)
      rw [es, nI_1]
      refine And.intro ins_ (nm_e (And.intro ins_ (nm_e (And.intro ins_ (nm_e (And.intro inf (nm_e ?_)))))))
      refine hY _ (cp_y60 (fun _ => ?_) (fun h => absurd hok h))
      refine And.intro inf ?_
      rw [ef]
      refine nm_r hb1' (br_t hlt ?_)
      rw [e16, es, nI_1]
      refine And.intro ins_ (nm_e (And.intro ins_ (nm_e (And.intro ins_ (nm_e (And.intro inf (nm_e ⟨rfl, ?_⟩)))))))
      refine cp_in ⟨⟨g1, g2, g3, g4, g5, g6⟩, cp_CW_emit hC hf hb1' hcn ho ha10 ha (okb7 hok) (okb hok), hch, fun h => absurd h h1⟩
    · have hlt : ¬ nI cnt < 16 := nI_nlt (b := 16) (by omega) (by omega)
      refine br_f hlt ?_
      refine hY _ (cp_y60 (fun _ => ?_) (fun h => absurd hok h))
      refine And.intro inf ?_
      rw [ef]
      exact nm_r hb1' (br_f hlt ⟨rfl, hR⟩)
  by_cases h10 : nI o = 10
  · refine br_t h10 ?_
    rcases pk_ix v3 (n := fN) (by omega) with h3 | h3 | ⟨q, hq, e3⟩
    · exact br_t h3 (br_f h1 (Y1 (br_f (by decide) (br_f h4 (br_t h5 (br_t h10 (cp_isF (fun _ => br_t rfl ⟨rfl, hR⟩) (fun a _ => absurd h3 a))))))))
    · by_cases h3' : v3 < 0
      · exact br_t h3' (br_f h1 (Y1 (br_f (by decide) (br_f h4 (br_t h5 (br_t h10 (cp_isF (fun _ => br_t rfl ⟨rfl, hR⟩) (fun a _ => absurd h3' a))))))))
      · exact br_f h3' (br_f (fun a => (cp_ge _ _).mp h3 a) (br_f h1 (Y1 (br_f (by decide) (br_f h4 (br_t h5 (br_t h10 (cp_isF (fun _ => br_t rfl ⟨rfl, hR⟩) (fun _ a => absurd h3 a)))))))))
    · have q0 : ¬ v3 < 0 := by rw [e3]; exact nI_pos (by omega)
      have q1 : v3 < nI fN := by rw [e3]; exact nI_lt hq (by omega)
      have q2 : ¬ nI fN ≤ v3 := by rw [e3]; exact nI_ge hq (by omega)
      exact main (fun _ => ⟨q, hq, e3⟩) (fun h => absurd h10 h) (fun post hp => br_f h1 (Y1 (br_f (by decide) (br_f h4 (br_t h5 (br_t h10 (cp_isF (fun o => (o.elim q0 q2).elim) (fun _ _ => br_f (by decide) hp)))))))) (nI fN) q0 q1
  · refine br_f h10 ?_
    by_cases h3 : v3 < 0
    · exact br_t h3 (br_f h1 (Y1 (br_f (by decide) (br_f h4 (br_t h5 (br_f h10 (br_t h3 ⟨rfl, hR⟩)))))))
    · by_cases h33 : v3 ≤ 3
      · have hlt : v3 < 4 := Int32.not_le.mp ((cp_3 v3).mp h33)
        obtain ⟨q, hq, e3⟩ := nI_of2 (M := 3) (n := 3) (by decide) h3 h33
        exact main (fun h => absurd h h10) (fun _ => ⟨q, by omega, e3⟩) (fun post hp => br_f h1 (Y1 (br_f (by decide) (br_f h4 (br_t h5 (br_f h10 (br_f h3 (br_t h33 hp)))))))) 4 h3 hlt
      · have hlt : ¬ v3 < 4 := fun a => h33 ((cp_3 v3).mpr (Int32.not_le.mpr a))
        exact br_f h3 (br_f hlt (br_f h1 (Y1 (br_f (by decide) (br_f h4 (br_t h5 (br_f h10 (br_f h3 (br_f h33 ⟨rfl, hR⟩)))))))))
end
section
theorem i_vc_retract {k : Nat} {u : SX} {v : SY} (I : i_Rel k u v) (hk : k + 5 ≤ 2563) (v1 : Int32) : wpX_retract (fun r u' => wpY_retract (fun r' v' => r' = r ∧ i_Rel (k + 5) u' v') v v1) u v1 := by
  refine cp_el (P := fun u v => wpX_retract (fun r u' => wpY_retract (fun r' v' => r' = r ∧ i_Rel (k + 5) u' v') v v1) u v1) ?_ I
  intro f_cells f_functions f_limit f_status f_freeCount f_first f_size f_heapSize f_depth f_cur f_inserted f_overflowed a_bodySizes a_opAt a_aAt a_bAt a_baseValue a_settledValue a_outputValue a_changedMark a_cellHead a_cellTail a_kindOf a_subjectOf a_valueOf a_labelOf a_nextOf a_ownerOf a_leaveOf a_pcOf a_snapshot a_cellPrev a_cellNext a_sourceOf a_alive a_queued a_free a_nodeAt a_indexOf a_heap a_frameEnter a_framePc a_frameZone a_frameWait a_frameRegs h_entries h_depth b_kinds b_subjects b_values b_store b_openFunction b_openArg b_openNext b_regs cN fN lN hF
  have hR : i_Rel (k + 5) (nI cN, nI fN, nI lN, f_status, f_freeCount, f_first, f_size, f_heapSize, f_depth, f_cur, f_inserted, f_overflowed, a_bodySizes, a_opAt, a_aAt, a_bAt, a_baseValue, a_settledValue, a_outputValue, a_changedMark, a_cellHead, a_cellTail, a_kindOf, a_subjectOf, a_valueOf, a_labelOf, a_nextOf, a_ownerOf, a_leaveOf, a_pcOf, a_snapshot, a_cellPrev, a_cellNext, a_sourceOf, a_alive, a_queued, a_free, a_nodeAt, a_indexOf, a_heap, a_frameEnter, a_framePc, a_frameZone, a_frameWait, a_frameRegs) (nI cN, nI fN, nI lN, f_status, h_entries, h_depth, a_opAt, a_aAt, a_bAt, a_bodySizes, a_baseValue, a_settledValue, a_outputValue, a_changedMark, b_kinds, b_subjects, b_values, b_store, b_openFunction, b_openArg, b_openNext, b_regs) := cp_in hF
  obtain ⟨⟨g1, g2, g3, g4, g5, g6⟩, hC, hch, hL⟩ := hF
  by_cases h1 : f_status = 1
  · exact br_t h1 (br_t h1 ⟨rfl, hR⟩)
  refine br_f h1 ?_
  rcases pk_ix v1 (n := fN) (by omega) with h2 | h2 | ⟨f, hf, rfl⟩
  · exact br_t h2 (br_f h1 (cp_isF (fun _ => br_t rfl ⟨rfl, hR⟩) (fun a _ => absurd h2 a)))
  · by_cases h2' : v1 < 0
    · exact br_t h2' (br_f h1 (cp_isF (fun _ => br_t rfl ⟨rfl, hR⟩) (fun a _ => absurd h2' a)))
    · exact br_f h2' (br_f (fun a => (cp_ge _ _).mp h2 a) (br_f h1 (cp_isF (fun _ => br_t rfl ⟨rfl, hR⟩) (fun _ a => absurd h2 a))))
  have hf0 : ¬ nI f < 0 := nI_pos (by omega)
  have hff : ¬ nI fN ≤ nI f := nI_ge hf (by omega)
  have Y1 : ∀ {A : Int32 → Prop}, A 1 → wpY_isFunction A (nI cN, nI fN, nI lN, f_status, h_entries, h_depth, a_opAt, a_aAt, a_bAt, a_bodySizes, a_baseValue, a_settledValue, a_outputValue, a_changedMark, b_kinds, b_subjects, b_values, b_store, b_openFunction, b_openArg, b_openNext, b_regs) (nI f) := fun h => cp_isF (fun o => (o.elim hf0 hff).elim) (fun _ _ => h)
  obtain ⟨hb1, hb2, _⟩ := hC f hf
  have hb1' : a_bodySizes f = nI (cp_bz (nI cN, a_bodySizes, a_opAt, a_aAt, a_bAt) f) := hb1
  generalize cp_bz (nI cN, a_bodySizes, a_opAt, a_aAt, a_bAt) f = cnt at hb1' hb2
  have inf : vp_in (nI f) 6 := vp_in_nI (by omega) (by decide)
  have ef : (nI f).toNatClampNeg = f := nI_clamp (by omega)
  refine br_f hf0 (br_t (nI_lt hf (by omega)) (And.intro inf ?_))
  rw [ef]
  by_cases h0 : cnt = 0
  · have e0 : a_bodySizes f = 0 := by rw [hb1', h0]; rfl
    refine br_t e0 (br_f h1 (Y1 (br_f (by decide) (And.intro inf ?_))))
    rw [ef]
    exact br_t e0 ⟨rfl, hR⟩
  · obtain ⟨c, rfl⟩ : ∃ c, cnt = c + 1 := ⟨cnt - 1, by omega⟩
    have e0 : ¬ a_bodySizes f = 0 := by rw [hb1']; exact nI_ne0 (by omega) (by omega)
    have em : a_bodySizes f - 1 = nI c := by rw [hb1']; exact nI_pred _
    rw [em]
    refine br_f e0 (And.intro inf (And.intro inf (nm_e (And.intro inf ?_))))
    refine br_f h1 (Y1 (br_f (by decide) (And.intro inf ?_)))
    rw [ef, em]
    refine br_f e0 (And.intro inf (And.intro inf (nm_e (And.intro inf ⟨rfl, ?_⟩))))
    exact cp_in ⟨⟨g1, g2, g3, g4, g5, g6⟩, cp_CW_ret hC hf hb1' (by omega), hch, fun h => absurd h h1⟩
theorem i_vc_bodySize {k : Nat} {u : SX} {v : SY} (I : i_Rel k u v) (hk : k + 5 ≤ 2563) (v1 : Int32) : wpX_bodySize (fun r => wpY_bodySize (fun r' => r' = r ∧ i_Rel (k + 5) u v) v v1) u v1 := by
  refine cp_el (P := fun u v => wpX_bodySize (fun r => wpY_bodySize (fun r' => r' = r ∧ i_Rel (k + 5) u v) v v1) u v1) ?_ I
  intro f_cells f_functions f_limit f_status f_freeCount f_first f_size f_heapSize f_depth f_cur f_inserted f_overflowed a_bodySizes a_opAt a_aAt a_bAt a_baseValue a_settledValue a_outputValue a_changedMark a_cellHead a_cellTail a_kindOf a_subjectOf a_valueOf a_labelOf a_nextOf a_ownerOf a_leaveOf a_pcOf a_snapshot a_cellPrev a_cellNext a_sourceOf a_alive a_queued a_free a_nodeAt a_indexOf a_heap a_frameEnter a_framePc a_frameZone a_frameWait a_frameRegs h_entries h_depth b_kinds b_subjects b_values b_store b_openFunction b_openArg b_openNext b_regs cN fN lN hF
  have hR : i_Rel (k + 5) (nI cN, nI fN, nI lN, f_status, f_freeCount, f_first, f_size, f_heapSize, f_depth, f_cur, f_inserted, f_overflowed, a_bodySizes, a_opAt, a_aAt, a_bAt, a_baseValue, a_settledValue, a_outputValue, a_changedMark, a_cellHead, a_cellTail, a_kindOf, a_subjectOf, a_valueOf, a_labelOf, a_nextOf, a_ownerOf, a_leaveOf, a_pcOf, a_snapshot, a_cellPrev, a_cellNext, a_sourceOf, a_alive, a_queued, a_free, a_nodeAt, a_indexOf, a_heap, a_frameEnter, a_framePc, a_frameZone, a_frameWait, a_frameRegs) (nI cN, nI fN, nI lN, f_status, h_entries, h_depth, a_opAt, a_aAt, a_bAt, a_bodySizes, a_baseValue, a_settledValue, a_outputValue, a_changedMark, b_kinds, b_subjects, b_values, b_store, b_openFunction, b_openArg, b_openNext, b_regs) := cp_in hF
  obtain ⟨⟨g1, g2, g3, g4, g5, g6⟩, hC, hch, hL⟩ := hF
  rcases pk_ix v1 (n := fN) (by omega) with h2 | h2 | ⟨f, hf, rfl⟩
  · exact br_t h2 (by unfold wpY_bodySize; exact cp_isF (fun _ => br_t rfl ⟨rfl, hR⟩) (fun a _ => absurd h2 a))
  · by_cases h2' : v1 < 0
    · exact br_t h2' (by unfold wpY_bodySize; exact cp_isF (fun _ => br_t rfl ⟨rfl, hR⟩) (fun a _ => absurd h2' a))
    · exact br_f h2' (br_f (fun a => (cp_ge _ _).mp h2 a) (by unfold wpY_bodySize; exact cp_isF (fun _ => br_t rfl ⟨rfl, hR⟩) (fun _ a => absurd h2 a)))
  have hf0 : ¬ nI f < 0 := nI_pos (by omega)
  have hff : ¬ nI fN ≤ nI f := nI_ge hf (by omega)
  have inf : vp_in (nI f) 6 := vp_in_nI (by omega) (by decide)
  exact br_f hf0 (br_t (nI_lt hf (by omega)) (And.intro inf (by unfold wpY_bodySize; exact cp_isF (fun o => (o.elim hf0 hff).elim) (fun _ _ => br_f (by decide) (And.intro inf ⟨rfl, hR⟩)))))
theorem i_vc_code {k : Nat} {u : SX} {v : SY} (I : i_Rel k u v) (hk : k + 5 ≤ 2563) (v1 : Int32) (v2 : Int32) (v3 : Int32) : wpX_code (fun r => wpY_code (fun r' => r' = r ∧ i_Rel (k + 5) u v) v v1 v2 v3) u v1 v2 v3 := by
  refine cp_el (P := fun u v => wpX_code (fun r => wpY_code (fun r' => r' = r ∧ i_Rel (k + 5) u v) v v1 v2 v3) u v1 v2 v3) ?_ I
  intro f_cells f_functions f_limit f_status f_freeCount f_first f_size f_heapSize f_depth f_cur f_inserted f_overflowed a_bodySizes a_opAt a_aAt a_bAt a_baseValue a_settledValue a_outputValue a_changedMark a_cellHead a_cellTail a_kindOf a_subjectOf a_valueOf a_labelOf a_nextOf a_ownerOf a_leaveOf a_pcOf a_snapshot a_cellPrev a_cellNext a_sourceOf a_alive a_queued a_free a_nodeAt a_indexOf a_heap a_frameEnter a_framePc a_frameZone a_frameWait a_frameRegs h_entries h_depth b_kinds b_subjects b_values b_store b_openFunction b_openArg b_openNext b_regs cN fN lN hF
  have hR : i_Rel (k + 5) (nI cN, nI fN, nI lN, f_status, f_freeCount, f_first, f_size, f_heapSize, f_depth, f_cur, f_inserted, f_overflowed, a_bodySizes, a_opAt, a_aAt, a_bAt, a_baseValue, a_settledValue, a_outputValue, a_changedMark, a_cellHead, a_cellTail, a_kindOf, a_subjectOf, a_valueOf, a_labelOf, a_nextOf, a_ownerOf, a_leaveOf, a_pcOf, a_snapshot, a_cellPrev, a_cellNext, a_sourceOf, a_alive, a_queued, a_free, a_nodeAt, a_indexOf, a_heap, a_frameEnter, a_framePc, a_frameZone, a_frameWait, a_frameRegs) (nI cN, nI fN, nI lN, f_status, h_entries, h_depth, a_opAt, a_aAt, a_bAt, a_bodySizes, a_baseValue, a_settledValue, a_outputValue, a_changedMark, b_kinds, b_subjects, b_values, b_store, b_openFunction, b_openArg, b_openNext, b_regs) := cp_in hF
  obtain ⟨⟨g1, g2, g3, g4, g5, g6⟩, hC, hch, hL⟩ := hF
  rcases pk_ix v1 (n := fN) (by omega) with h2 | h2 | ⟨f, hf, rfl⟩
  · exact br_t h2 (by unfold wpY_code; exact cp_isF (fun _ => br_t rfl ⟨rfl, hR⟩) (fun a _ => absurd h2 a))
  · by_cases h2' : v1 < 0
    · exact br_t h2' (by unfold wpY_code; exact cp_isF (fun _ => br_t rfl ⟨rfl, hR⟩) (fun a _ => absurd h2' a))
    · exact br_f h2' (br_f (fun a => (cp_ge _ _).mp h2 a) (by unfold wpY_code; exact cp_isF (fun _ => br_t rfl ⟨rfl, hR⟩) (fun _ a => absurd h2 a)))
  have hf0 : ¬ nI f < 0 := nI_pos (by omega)
  have hff : ¬ nI fN ≤ nI f := nI_ge hf (by omega)
  have inf : vp_in (nI f) 6 := vp_in_nI (by omega) (by decide)
  have ef : (nI f).toNatClampNeg = f := nI_clamp (by omega)
  have Y1 : ∀ {A : Int32 → Prop}, A 1 → wpY_isFunction A (nI cN, nI fN, nI lN, f_status, h_entries, h_depth, a_opAt, a_aAt, a_bAt, a_bodySizes, a_baseValue, a_settledValue, a_outputValue, a_changedMark, b_kinds, b_subjects, b_values, b_store, b_openFunction, b_openArg, b_openNext, b_regs) (nI f) := fun h => cp_isF (fun o => (o.elim hf0 hff).elim) (fun _ _ => h)
  obtain ⟨hb1, hb2, _⟩ := hC f hf
  have hb1' : a_bodySizes f = nI (cp_bz (nI cN, a_bodySizes, a_opAt, a_aAt, a_bAt) f) := hb1
  generalize cp_bz (nI cN, a_bodySizes, a_opAt, a_aAt, a_bAt) f = cnt at hb1' hb2
  refine br_f hf0 (br_t (nI_lt hf (by omega)) ?_)
  rcases pk_ix v2 (n := cnt) (by omega) with h3 | h3 | ⟨i, hi, rfl⟩
  · exact br_t h3 (by unfold wpY_code; exact Y1 (br_f (by decide) (br_t h3 ⟨rfl, hR⟩)))
  · by_cases h3' : v2 < 0
    · exact br_t h3' (by unfold wpY_code; exact Y1 (br_f (by decide) (br_t h3' ⟨rfl, hR⟩)))
    · have hn : ¬ v2 < a_bodySizes f := by rw [hb1']; exact (cp_ge _ _).mp h3
      refine br_f h3' (And.intro inf ?_)
      rw [ef]
      refine br_f hn ?_
      unfold wpY_code
      refine Y1 (br_f (by decide) (br_f h3' (And.intro inf ?_)))
      rw [ef]
      exact br_f hn ⟨rfl, hR⟩
  · have hi0 : ¬ nI i < 0 := nI_pos (by omega)
    have hib : nI i < a_bodySizes f := by rw [hb1']; exact nI_lt hi (by omega)
    have e16 : nI f * 16 + nI i = nI (f * 16 + i) := by rw [← nI_add, ← pk_mul]; rfl
    have ins_ : vp_in (nI (f * 16 + i)) 96 := vp_in_nI (by omega) (by decide)
    refine br_f hi0 (And.intro inf ?_)
    rw [ef]
    refine br_t hib (nm_r e16 ?_)
    have YY : ∀ {A : Int32 → Prop}, (((v3 = 0 → (vp_in (nI (f * 16 + i)) 96 ∧ (A (a_opAt (nI (f * 16 + i)).toNatClampNeg)))) ∧ (¬ v3 = 0 → (((v3 = 1 → (vp_in (nI (f * 16 + i)) 96 ∧ (A (a_aAt (nI (f * 16 + i)).toNatClampNeg)))) ∧ (¬ v3 = 1 → (((v3 = 2 → (vp_in (nI (f * 16 + i)) 96 ∧ (A (a_bAt (nI (f * 16 + i)).toNatClampNeg)))) ∧ (¬ v3 = 2 → (A (-1)))))))))))  → wpY_code A (nI cN, nI fN, nI lN, f_status, h_entries, h_depth, a_opAt, a_aAt, a_bAt, a_bodySizes, a_baseValue, a_settledValue, a_outputValue, a_changedMark, b_kinds, b_subjects, b_values, b_store, b_openFunction, b_openArg, b_openNext, b_regs) (nI f) (nI i) v3 := by
      intro A hA
      unfold wpY_code
      refine Y1 (br_f (by decide) (br_f hi0 (And.intro inf ?_)))
      rw [ef, e16]
      exact br_t hib hA
    refine br_c (fun a => And.intro ins_ (YY (br_t a (And.intro ins_ ⟨rfl, hR⟩)))) (fun a => br_c (fun b => And.intro ins_ (YY (br_f a (br_t b (And.intro ins_ ⟨rfl, hR⟩))))) (fun b => br_c (fun c => And.intro ins_ (YY (br_f a (br_f b (br_t c (And.intro ins_ ⟨rfl, hR⟩)))))) (fun c => YY (br_f a (br_f b (br_f c ⟨rfl, hR⟩))))))
theorem i_vc_base {k : Nat} {u : SX} {v : SY} (I : i_Rel k u v) (hk : k + 5 ≤ 2563) (v1 : Int32) : wpX_base (fun r => wpY_base (fun r' => r' = r ∧ i_Rel (k + 5) u v) v v1) u v1 := by
  refine cp_el (P := fun u v => wpX_base (fun r => wpY_base (fun r' => r' = r ∧ i_Rel (k + 5) u v) v v1) u v1) ?_ I
  intro f_cells f_functions f_limit f_status f_freeCount f_first f_size f_heapSize f_depth f_cur f_inserted f_overflowed a_bodySizes a_opAt a_aAt a_bAt a_baseValue a_settledValue a_outputValue a_changedMark a_cellHead a_cellTail a_kindOf a_subjectOf a_valueOf a_labelOf a_nextOf a_ownerOf a_leaveOf a_pcOf a_snapshot a_cellPrev a_cellNext a_sourceOf a_alive a_queued a_free a_nodeAt a_indexOf a_heap a_frameEnter a_framePc a_frameZone a_frameWait a_frameRegs h_entries h_depth b_kinds b_subjects b_values b_store b_openFunction b_openArg b_openNext b_regs cN fN lN hF
  have hR : i_Rel (k + 5) (nI cN, nI fN, nI lN, f_status, f_freeCount, f_first, f_size, f_heapSize, f_depth, f_cur, f_inserted, f_overflowed, a_bodySizes, a_opAt, a_aAt, a_bAt, a_baseValue, a_settledValue, a_outputValue, a_changedMark, a_cellHead, a_cellTail, a_kindOf, a_subjectOf, a_valueOf, a_labelOf, a_nextOf, a_ownerOf, a_leaveOf, a_pcOf, a_snapshot, a_cellPrev, a_cellNext, a_sourceOf, a_alive, a_queued, a_free, a_nodeAt, a_indexOf, a_heap, a_frameEnter, a_framePc, a_frameZone, a_frameWait, a_frameRegs) (nI cN, nI fN, nI lN, f_status, h_entries, h_depth, a_opAt, a_aAt, a_bAt, a_bodySizes, a_baseValue, a_settledValue, a_outputValue, a_changedMark, b_kinds, b_subjects, b_values, b_store, b_openFunction, b_openArg, b_openNext, b_regs) := cp_in hF
  obtain ⟨⟨g1, g2, g3, g4, g5, g6⟩, hC, hch, hL⟩ := hF
  rcases pk_ix v1 (n := cN) (by omega) with h2 | h2 | ⟨c, hc, rfl⟩
  · exact br_t h2 (by unfold wpY_base; exact cp_isC (fun _ => br_t rfl ⟨rfl, hR⟩) (fun a _ => absurd h2 a))
  · by_cases h2' : v1 < 0
    · exact br_t h2' (by unfold wpY_base; exact cp_isC (fun _ => br_t rfl ⟨rfl, hR⟩) (fun a _ => absurd h2' a))
    · exact br_f h2' (br_f (fun a => (cp_ge _ _).mp h2 a) (by unfold wpY_base; exact cp_isC (fun _ => br_t rfl ⟨rfl, hR⟩) (fun _ a => absurd h2 a)))
  have hf0 : ¬ nI c < 0 := nI_pos (by omega)
  have hff : ¬ nI cN ≤ nI c := nI_ge hc (by omega)
  have inf : vp_in (nI c) 16 := vp_in_nI (by omega) (by decide)
  exact br_f hf0 (br_t (nI_lt hc (by omega)) (And.intro inf (by unfold wpY_base; exact cp_isC (fun o => (o.elim hf0 hff).elim) (fun _ _ => br_f (by decide) (And.intro inf ⟨rfl, hR⟩)))))
theorem i_vc_settled {k : Nat} {u : SX} {v : SY} (I : i_Rel k u v) (hk : k + 5 ≤ 2563) (v1 : Int32) : wpX_settled (fun r => wpY_settled (fun r' => r' = r ∧ i_Rel (k + 5) u v) v v1) u v1 := by
  refine cp_el (P := fun u v => wpX_settled (fun r => wpY_settled (fun r' => r' = r ∧ i_Rel (k + 5) u v) v v1) u v1) ?_ I
  intro f_cells f_functions f_limit f_status f_freeCount f_first f_size f_heapSize f_depth f_cur f_inserted f_overflowed a_bodySizes a_opAt a_aAt a_bAt a_baseValue a_settledValue a_outputValue a_changedMark a_cellHead a_cellTail a_kindOf a_subjectOf a_valueOf a_labelOf a_nextOf a_ownerOf a_leaveOf a_pcOf a_snapshot a_cellPrev a_cellNext a_sourceOf a_alive a_queued a_free a_nodeAt a_indexOf a_heap a_frameEnter a_framePc a_frameZone a_frameWait a_frameRegs h_entries h_depth b_kinds b_subjects b_values b_store b_openFunction b_openArg b_openNext b_regs cN fN lN hF
  have hR : i_Rel (k + 5) (nI cN, nI fN, nI lN, f_status, f_freeCount, f_first, f_size, f_heapSize, f_depth, f_cur, f_inserted, f_overflowed, a_bodySizes, a_opAt, a_aAt, a_bAt, a_baseValue, a_settledValue, a_outputValue, a_changedMark, a_cellHead, a_cellTail, a_kindOf, a_subjectOf, a_valueOf, a_labelOf, a_nextOf, a_ownerOf, a_leaveOf, a_pcOf, a_snapshot, a_cellPrev, a_cellNext, a_sourceOf, a_alive, a_queued, a_free, a_nodeAt, a_indexOf, a_heap, a_frameEnter, a_framePc, a_frameZone, a_frameWait, a_frameRegs) (nI cN, nI fN, nI lN, f_status, h_entries, h_depth, a_opAt, a_aAt, a_bAt, a_bodySizes, a_baseValue, a_settledValue, a_outputValue, a_changedMark, b_kinds, b_subjects, b_values, b_store, b_openFunction, b_openArg, b_openNext, b_regs) := cp_in hF
  obtain ⟨⟨g1, g2, g3, g4, g5, g6⟩, hC, hch, hL⟩ := hF
  by_cases h1 : f_status = 1
  case neg => exact br_f h1 (br_f h1 ⟨rfl, hR⟩)
  refine br_t h1 ?_
  rcases pk_ix v1 (n := cN) (by omega) with h2 | h2 | ⟨c, hc, rfl⟩
  · exact br_t h2 (br_t h1 (cp_isC (fun _ => br_t rfl ⟨rfl, hR⟩) (fun a _ => absurd h2 a)))
  · by_cases h2' : v1 < 0
    · exact br_t h2' (br_t h1 (cp_isC (fun _ => br_t rfl ⟨rfl, hR⟩) (fun a _ => absurd h2' a)))
    · exact br_f h2' (br_f (fun a => (cp_ge _ _).mp h2 a) (br_t h1 (cp_isC (fun _ => br_t rfl ⟨rfl, hR⟩) (fun _ a => absurd h2 a))))
  have hf0 : ¬ nI c < 0 := nI_pos (by omega)
  have hff : ¬ nI cN ≤ nI c := nI_ge hc (by omega)
  have inf : vp_in (nI c) 16 := vp_in_nI (by omega) (by decide)
  exact br_f hf0 (br_t (nI_lt hc (by omega)) (And.intro inf (br_t h1 (cp_isC (fun o => (o.elim hf0 hff).elim) (fun _ _ => br_f (by decide) (And.intro inf ⟨rfl, hR⟩))))))
theorem i_vc_output {k : Nat} {u : SX} {v : SY} (I : i_Rel k u v) (hk : k + 5 ≤ 2563) (v1 : Int32) : wpX_output (fun r => wpY_output (fun r' => r' = r ∧ i_Rel (k + 5) u v) v v1) u v1 := by
  refine cp_el (P := fun u v => wpX_output (fun r => wpY_output (fun r' => r' = r ∧ i_Rel (k + 5) u v) v v1) u v1) ?_ I
  intro f_cells f_functions f_limit f_status f_freeCount f_first f_size f_heapSize f_depth f_cur f_inserted f_overflowed a_bodySizes a_opAt a_aAt a_bAt a_baseValue a_settledValue a_outputValue a_changedMark a_cellHead a_cellTail a_kindOf a_subjectOf a_valueOf a_labelOf a_nextOf a_ownerOf a_leaveOf a_pcOf a_snapshot a_cellPrev a_cellNext a_sourceOf a_alive a_queued a_free a_nodeAt a_indexOf a_heap a_frameEnter a_framePc a_frameZone a_frameWait a_frameRegs h_entries h_depth b_kinds b_subjects b_values b_store b_openFunction b_openArg b_openNext b_regs cN fN lN hF
  have hR : i_Rel (k + 5) (nI cN, nI fN, nI lN, f_status, f_freeCount, f_first, f_size, f_heapSize, f_depth, f_cur, f_inserted, f_overflowed, a_bodySizes, a_opAt, a_aAt, a_bAt, a_baseValue, a_settledValue, a_outputValue, a_changedMark, a_cellHead, a_cellTail, a_kindOf, a_subjectOf, a_valueOf, a_labelOf, a_nextOf, a_ownerOf, a_leaveOf, a_pcOf, a_snapshot, a_cellPrev, a_cellNext, a_sourceOf, a_alive, a_queued, a_free, a_nodeAt, a_indexOf, a_heap, a_frameEnter, a_framePc, a_frameZone, a_frameWait, a_frameRegs) (nI cN, nI fN, nI lN, f_status, h_entries, h_depth, a_opAt, a_aAt, a_bAt, a_bodySizes, a_baseValue, a_settledValue, a_outputValue, a_changedMark, b_kinds, b_subjects, b_values, b_store, b_openFunction, b_openArg, b_openNext, b_regs) := cp_in hF
  obtain ⟨⟨g1, g2, g3, g4, g5, g6⟩, hC, hch, hL⟩ := hF
  by_cases h1 : f_status = 1
  case neg => exact br_f h1 (br_f h1 ⟨rfl, hR⟩)
  refine br_t h1 ?_
  rcases pk_ix v1 (n := cN) (by omega) with h2 | h2 | ⟨c, hc, rfl⟩
  · exact br_t h2 (br_t h1 (cp_isC (fun _ => br_t rfl ⟨rfl, hR⟩) (fun a _ => absurd h2 a)))
  · by_cases h2' : v1 < 0
    · exact br_t h2' (br_t h1 (cp_isC (fun _ => br_t rfl ⟨rfl, hR⟩) (fun a _ => absurd h2' a)))
    · exact br_f h2' (br_f (fun a => (cp_ge _ _).mp h2 a) (br_t h1 (cp_isC (fun _ => br_t rfl ⟨rfl, hR⟩) (fun _ a => absurd h2 a))))
  have hf0 : ¬ nI c < 0 := nI_pos (by omega)
  have hff : ¬ nI cN ≤ nI c := nI_ge hc (by omega)
  have inf : vp_in (nI c) 16 := vp_in_nI (by omega) (by decide)
  exact br_f hf0 (br_t (nI_lt hc (by omega)) (And.intro inf (br_t h1 (cp_isC (fun o => (o.elim hf0 hff).elim) (fun _ _ => br_f (by decide) (And.intro inf ⟨rfl, hR⟩))))))
theorem i_vc_changed {k : Nat} {u : SX} {v : SY} (I : i_Rel k u v) (hk : k + 5 ≤ 2563) (v1 : Int32) : wpX_changed (fun r => wpY_changed (fun r' => r' = r ∧ i_Rel (k + 5) u v) v v1) u v1 := by
  refine cp_el (P := fun u v => wpX_changed (fun r => wpY_changed (fun r' => r' = r ∧ i_Rel (k + 5) u v) v v1) u v1) ?_ I
  intro f_cells f_functions f_limit f_status f_freeCount f_first f_size f_heapSize f_depth f_cur f_inserted f_overflowed a_bodySizes a_opAt a_aAt a_bAt a_baseValue a_settledValue a_outputValue a_changedMark a_cellHead a_cellTail a_kindOf a_subjectOf a_valueOf a_labelOf a_nextOf a_ownerOf a_leaveOf a_pcOf a_snapshot a_cellPrev a_cellNext a_sourceOf a_alive a_queued a_free a_nodeAt a_indexOf a_heap a_frameEnter a_framePc a_frameZone a_frameWait a_frameRegs h_entries h_depth b_kinds b_subjects b_values b_store b_openFunction b_openArg b_openNext b_regs cN fN lN hF
  have hR : i_Rel (k + 5) (nI cN, nI fN, nI lN, f_status, f_freeCount, f_first, f_size, f_heapSize, f_depth, f_cur, f_inserted, f_overflowed, a_bodySizes, a_opAt, a_aAt, a_bAt, a_baseValue, a_settledValue, a_outputValue, a_changedMark, a_cellHead, a_cellTail, a_kindOf, a_subjectOf, a_valueOf, a_labelOf, a_nextOf, a_ownerOf, a_leaveOf, a_pcOf, a_snapshot, a_cellPrev, a_cellNext, a_sourceOf, a_alive, a_queued, a_free, a_nodeAt, a_indexOf, a_heap, a_frameEnter, a_framePc, a_frameZone, a_frameWait, a_frameRegs) (nI cN, nI fN, nI lN, f_status, h_entries, h_depth, a_opAt, a_aAt, a_bAt, a_bodySizes, a_baseValue, a_settledValue, a_outputValue, a_changedMark, b_kinds, b_subjects, b_values, b_store, b_openFunction, b_openArg, b_openNext, b_regs) := cp_in hF
  obtain ⟨⟨g1, g2, g3, g4, g5, g6⟩, hC, hch, hL⟩ := hF
  by_cases h1 : f_status = 1
  case neg => exact br_f h1 (br_f h1 ⟨rfl, hR⟩)
  refine br_t h1 ?_
  rcases pk_ix v1 (n := cN) (by omega) with h2 | h2 | ⟨c, hc, rfl⟩
  · exact br_t h2 (br_t h1 (cp_isC (fun _ => br_t rfl ⟨rfl, hR⟩) (fun a _ => absurd h2 a)))
  · by_cases h2' : v1 < 0
    · exact br_t h2' (br_t h1 (cp_isC (fun _ => br_t rfl ⟨rfl, hR⟩) (fun a _ => absurd h2' a)))
    · exact br_f h2' (br_f (fun a => (cp_ge _ _).mp h2 a) (br_t h1 (cp_isC (fun _ => br_t rfl ⟨rfl, hR⟩) (fun _ a => absurd h2 a))))
  have hf0 : ¬ nI c < 0 := nI_pos (by omega)
  have hff : ¬ nI cN ≤ nI c := nI_ge hc (by omega)
  have inf : vp_in (nI c) 16 := vp_in_nI (by omega) (by decide)
  have hnar : narrow .boolean (.int (a_changedMark (nI c).toNatClampNeg)) = .int (a_changedMark (nI c).toNatClampNeg) := by
    rcases hch (nI c).toNatClampNeg with h | h <;> rw [h] <;> rfl
  exact br_f hf0 (br_t (nI_lt hc (by omega)) (And.intro inf (And.intro hnar (br_t h1 (cp_isC (fun o => (o.elim hf0 hff).elim) (fun _ _ => br_f (by decide) (And.intro inf (And.intro hnar ⟨rfl, hR⟩))))))))
theorem i_vc_status {k : Nat} {u : SX} {v : SY} (I : i_Rel k u v) (hk : k + 5 ≤ 2563) : wpX_status (fun r => wpY_status (fun r' => r' = r ∧ i_Rel (k + 5) u v) v) u := by
  refine cp_el (P := fun u v => wpX_status (fun r => wpY_status (fun r' => r' = r ∧ i_Rel (k + 5) u v) v) u) ?_ I
  intro f_cells f_functions f_limit f_status f_freeCount f_first f_size f_heapSize f_depth f_cur f_inserted f_overflowed a_bodySizes a_opAt a_aAt a_bAt a_baseValue a_settledValue a_outputValue a_changedMark a_cellHead a_cellTail a_kindOf a_subjectOf a_valueOf a_labelOf a_nextOf a_ownerOf a_leaveOf a_pcOf a_snapshot a_cellPrev a_cellNext a_sourceOf a_alive a_queued a_free a_nodeAt a_indexOf a_heap a_frameEnter a_framePc a_frameZone a_frameWait a_frameRegs h_entries h_depth b_kinds b_subjects b_values b_store b_openFunction b_openArg b_openNext b_regs cN fN lN hF
  have hR : i_Rel (k + 5) (nI cN, nI fN, nI lN, f_status, f_freeCount, f_first, f_size, f_heapSize, f_depth, f_cur, f_inserted, f_overflowed, a_bodySizes, a_opAt, a_aAt, a_bAt, a_baseValue, a_settledValue, a_outputValue, a_changedMark, a_cellHead, a_cellTail, a_kindOf, a_subjectOf, a_valueOf, a_labelOf, a_nextOf, a_ownerOf, a_leaveOf, a_pcOf, a_snapshot, a_cellPrev, a_cellNext, a_sourceOf, a_alive, a_queued, a_free, a_nodeAt, a_indexOf, a_heap, a_frameEnter, a_framePc, a_frameZone, a_frameWait, a_frameRegs) (nI cN, nI fN, nI lN, f_status, h_entries, h_depth, a_opAt, a_aAt, a_bAt, a_bodySizes, a_baseValue, a_settledValue, a_outputValue, a_changedMark, b_kinds, b_subjects, b_values, b_store, b_openFunction, b_openArg, b_openNext, b_regs) := cp_in hF
  exact And.intro rfl hR
theorem i_vc_traceSize {k : Nat} {u : SX} {v : SY} (I : i_Rel k u v) (hk : k + 5 ≤ 2563) : wpX_traceSize (fun r => wpY_traceSize (fun r' => r' = r ∧ i_Rel (k + 5) u v) v) u := by
  refine cp_el (P := fun u v => wpX_traceSize (fun r => wpY_traceSize (fun r' => r' = r ∧ i_Rel (k + 5) u v) v) u) ?_ I
  intro f_cells f_functions f_limit f_status f_freeCount f_first f_size f_heapSize f_depth f_cur f_inserted f_overflowed a_bodySizes a_opAt a_aAt a_bAt a_baseValue a_settledValue a_outputValue a_changedMark a_cellHead a_cellTail a_kindOf a_subjectOf a_valueOf a_labelOf a_nextOf a_ownerOf a_leaveOf a_pcOf a_snapshot a_cellPrev a_cellNext a_sourceOf a_alive a_queued a_free a_nodeAt a_indexOf a_heap a_frameEnter a_framePc a_frameZone a_frameWait a_frameRegs h_entries h_depth b_kinds b_subjects b_values b_store b_openFunction b_openArg b_openNext b_regs cN fN lN hF
  have hR : i_Rel (k + 5) (nI cN, nI fN, nI lN, f_status, f_freeCount, f_first, f_size, f_heapSize, f_depth, f_cur, f_inserted, f_overflowed, a_bodySizes, a_opAt, a_aAt, a_bAt, a_baseValue, a_settledValue, a_outputValue, a_changedMark, a_cellHead, a_cellTail, a_kindOf, a_subjectOf, a_valueOf, a_labelOf, a_nextOf, a_ownerOf, a_leaveOf, a_pcOf, a_snapshot, a_cellPrev, a_cellNext, a_sourceOf, a_alive, a_queued, a_free, a_nodeAt, a_indexOf, a_heap, a_frameEnter, a_framePc, a_frameZone, a_frameWait, a_frameRegs) (nI cN, nI fN, nI lN, f_status, h_entries, h_depth, a_opAt, a_aAt, a_bAt, a_bodySizes, a_baseValue, a_settledValue, a_outputValue, a_changedMark, b_kinds, b_subjects, b_values, b_store, b_openFunction, b_openArg, b_openNext, b_regs) := cp_in hF
  obtain ⟨_, hC, hch, hL⟩ := hF
  by_cases h1 : f_status = 1
  case neg => exact br_f h1 (br_f h1 ⟨rfl, hR⟩)
  obtain ⟨fc, g0, W, hLX, _, he, _⟩ := hL h1
  exact br_t h1 (br_t h1 ⟨by rw [he]; exact hLX.2.2.1.symm, hR⟩)
theorem i_vc_drop {k : Nat} {u : SX} {v : SY} (I : i_Rel k u v) (hk : k + 5 ≤ 2563) : wpX_drop (fun r u' => wpY_drop (fun r' v' => r' = r ∧ i_Rel (k + 5) u' v') v) u := by
  refine cp_el (P := fun u v => wpX_drop (fun r u' => wpY_drop (fun r' v' => r' = r ∧ i_Rel (k + 5) u' v') v) u) ?_ I
  intro f_cells f_functions f_limit f_status f_freeCount f_first f_size f_heapSize f_depth f_cur f_inserted f_overflowed a_bodySizes a_opAt a_aAt a_bAt a_baseValue a_settledValue a_outputValue a_changedMark a_cellHead a_cellTail a_kindOf a_subjectOf a_valueOf a_labelOf a_nextOf a_ownerOf a_leaveOf a_pcOf a_snapshot a_cellPrev a_cellNext a_sourceOf a_alive a_queued a_free a_nodeAt a_indexOf a_heap a_frameEnter a_framePc a_frameZone a_frameWait a_frameRegs h_entries h_depth b_kinds b_subjects b_values b_store b_openFunction b_openArg b_openNext b_regs cN fN lN hF
  have hR : i_Rel (k + 5) (nI cN, nI fN, nI lN, f_status, f_freeCount, f_first, f_size, f_heapSize, f_depth, f_cur, f_inserted, f_overflowed, a_bodySizes, a_opAt, a_aAt, a_bAt, a_baseValue, a_settledValue, a_outputValue, a_changedMark, a_cellHead, a_cellTail, a_kindOf, a_subjectOf, a_valueOf, a_labelOf, a_nextOf, a_ownerOf, a_leaveOf, a_pcOf, a_snapshot, a_cellPrev, a_cellNext, a_sourceOf, a_alive, a_queued, a_free, a_nodeAt, a_indexOf, a_heap, a_frameEnter, a_framePc, a_frameZone, a_frameWait, a_frameRegs) (nI cN, nI fN, nI lN, f_status, h_entries, h_depth, a_opAt, a_aAt, a_bAt, a_bodySizes, a_baseValue, a_settledValue, a_outputValue, a_changedMark, b_kinds, b_subjects, b_values, b_store, b_openFunction, b_openArg, b_openNext, b_regs) := cp_in hF
  obtain ⟨hg, hC, hch, hL⟩ := hF
  by_cases h1 : f_status = 0
  · exact br_t h1 (br_t h1 ⟨rfl, hR⟩)
  · refine br_f h1 ?_
    refine cp_clear (fun al' qd' fr' hd' tl' _ _ => ?_)
    refine br_f h1 (And.intro rfl ?_)
    exact cp_in ⟨hg, hC, hch, fun h => absurd h (by decide)⟩
end
section
/-! ===== revert, run, propagate ===== -/
theorem cp_fill_eq {f s : Nat → Int32} {n : Nat} (h : f n = s n) : cp_fill f s n = cp_fill f s (n + 1) := by
  rw [← cp_fill_s (v := s n) rfl, cp_upd_same (cp_fill_at.trans h)]
section
variable {f_cells f_functions f_limit f_status f_freeCount f_first f_size f_heapSize f_depth f_cur f_inserted f_overflowed : Int32} {a_bodySizes a_opAt a_aAt a_bAt a_baseValue a_settledValue a_outputValue a_changedMark a_cellHead a_cellTail a_kindOf a_subjectOf a_valueOf a_labelOf a_nextOf a_ownerOf a_leaveOf a_pcOf a_snapshot a_cellPrev a_cellNext a_sourceOf a_alive a_queued a_free a_nodeAt a_indexOf a_heap a_frameEnter a_framePc a_frameZone a_frameWait a_frameRegs : Nat → Int32}
theorem cp_xrevert {post : Int32 → SX → Prop} {cN : Nat} {ch : Nat → Int32} (hc : f_cells = nI cN) (h16 : cN ≤ 16) (hch : ∀ c, ch c = if a_baseValue c = a_settledValue c then 0 else 1) (K : post (nI (cp_nz ch cN)) (f_cells, f_functions, f_limit, f_status, f_freeCount, f_first, f_size, f_heapSize, f_depth, f_cur, f_inserted, f_overflowed, a_bodySizes, a_opAt, a_aAt, a_bAt, cp_fill a_baseValue a_settledValue cN, a_settledValue, a_outputValue, a_changedMark, a_cellHead, a_cellTail, a_kindOf, a_subjectOf, a_valueOf, a_labelOf, a_nextOf, a_ownerOf, a_leaveOf, a_pcOf, a_snapshot, a_cellPrev, a_cellNext, a_sourceOf, a_alive, a_queued, a_free, a_nodeAt, a_indexOf, a_heap, a_frameEnter, a_framePc, a_frameZone, a_frameWait, a_frameRegs)) :
    ∀ (k i m : Nat), i + k = cN → k < m → wX_revert_15 post f_cells f_functions f_limit f_status f_freeCount f_first f_size f_heapSize f_depth f_cur f_inserted f_overflowed m (nI (cp_nz ch i)) (nI i) a_bodySizes a_opAt a_aAt a_bAt (cp_fill a_baseValue a_settledValue i) a_settledValue a_outputValue a_changedMark a_cellHead a_cellTail a_kindOf a_subjectOf a_valueOf a_labelOf a_nextOf a_ownerOf a_leaveOf a_pcOf a_snapshot a_cellPrev a_cellNext a_sourceOf a_alive a_queued a_free a_nodeAt a_indexOf a_heap a_frameEnter a_framePc a_frameZone a_frameWait a_frameRegs := by
  intro k
  induction k with
  | zero =>
    intro i m hi hm
    obtain ⟨m, rfl⟩ : ∃ m', m = m' + 1 := ⟨m - 1, by omega⟩
    obtain rfl : i = cN := by omega
    exact br_t (by rw [hc]; exact Int32.le_refl _) K
  | succ k ih =>
    intro i m hi hm
    obtain ⟨m, rfl⟩ : ∃ m', m = m' + 1 := ⟨m - 1, by omega⟩
    have inc : vp_in (nI i) 16 := vp_in_nI (by omega) (by decide)
    have hnz : cp_nz ch (i + 1) = cp_nz ch i + (if ch i = 0 then 0 else 1) := rfl
    have hih := ih (i + 1) m (by omega) (by omega)
    refine br_f (by rw [hc]; exact nI_ge (by omega) (by omega)) (And.intro inc (And.intro inc ?_))
    rw [nI_clamp (n := i) (by omega), cp_fill_at]
    refine br_c (fun h => nm_r (nI_1 _) ?_) (fun h => And.intro inc (And.intro inc ?_))
    · rw [cp_fill_eq h]
      rw [hnz, if_pos (by rw [hch, if_pos h])] at hih
      exact hih
    · rw [cp_fill_s rfl]
      refine nm_e (nm_r (nI_1 _) (nm_r (nI_1 _) ?_))
      rw [hnz, if_neg (by rw [hch, if_neg h]; decide)] at hih
      exact hih
end
section
variable {h_cells h_functions h_limit h_state h_entries h_depth : Int32} {b_codeOp b_codeA b_codeB b_bodyLength b_baseValue b_settledValue b_outputValue b_changedMark b_kinds b_subjects b_values b_store b_openFunction b_openArg b_openNext b_regs : Nat → Int32}
theorem cp_yrevert {post : Int32 → SY → Prop} {cN : Nat} {ch : Nat → Int32} (hc : h_cells = nI cN) (h16 : cN ≤ 16) (hch : ∀ c, ch c = if b_baseValue c = b_settledValue c then 0 else 1) (K : post (nI (cp_nz ch cN)) (h_cells, h_functions, h_limit, h_state, h_entries, h_depth, b_codeOp, b_codeA, b_codeB, b_bodyLength, cp_fill b_baseValue b_settledValue cN, b_settledValue, b_outputValue, b_changedMark, b_kinds, b_subjects, b_values, b_store, b_openFunction, b_openArg, b_openNext, b_regs)) :
    ∀ (k i m : Nat), i + k = cN → k < m → wY_revert_15 post h_cells h_functions h_limit h_state h_entries h_depth m (nI (cp_nz ch i)) (nI i) b_codeOp b_codeA b_codeB b_bodyLength (cp_fill b_baseValue b_settledValue i) b_settledValue b_outputValue b_changedMark b_kinds b_subjects b_values b_store b_openFunction b_openArg b_openNext b_regs := by
  intro k
  induction k with
  | zero =>
    intro i m hi hm
    obtain ⟨m, rfl⟩ : ∃ m', m = m' + 1 := ⟨m - 1, by omega⟩
    obtain rfl : i = cN := by omega
    exact br_t (by rw [hc]; exact Int32.le_refl _) K
  | succ k ih =>
    intro i m hi hm
    obtain ⟨m, rfl⟩ : ∃ m', m = m' + 1 := ⟨m - 1, by omega⟩
    have inc : vp_in (nI i) 16 := vp_in_nI (by omega) (by decide)
    have ec : (nI i).toNatClampNeg = i := nI_clamp (by omega)
    have hnz : cp_nz ch (i + 1) = cp_nz ch i + (if ch i = 0 then 0 else 1) := rfl
    have hih := ih (i + 1) m (by omega) (by omega)
    have e41 : ∀ x : Int32, x = nI (cp_nz ch (i + 1)) → wY_revert_41 post (wY_revert_15 post h_cells h_functions h_limit h_state h_entries h_depth m) x (nI i) h_cells h_functions h_limit h_state h_entries h_depth b_codeOp b_codeA b_codeB b_bodyLength (cp_fill b_baseValue b_settledValue i) b_settledValue b_outputValue b_changedMark b_kinds b_subjects b_values b_store b_openFunction b_openArg b_openNext b_regs := by
      intro x e
      subst e
      unfold wY_revert_41
      rw [ec, cp_fill_s rfl]
      exact And.intro inc (And.intro inc (nm_e (nm_r (nI_1 _) hih)))
    refine br_f (by rw [hc]; exact nI_ge (by omega) (by omega)) (And.intro inc (And.intro inc ?_))
    rw [ec, cp_fill_at]
    refine br_c (fun h => e41 _ ?_) (fun h => nm_r (nI_1 _) (e41 _ ?_))
    · rw [hnz, if_pos (by rw [hch, if_pos h])]; rfl
    · rw [hnz, if_neg (by rw [hch, if_neg h]; decide)]
end
theorem i_vc_revert {k : Nat} {u : SX} {v : SY} (I : i_Rel k u v) (hk : k + 5 ≤ 2563) : wpX_revert (fun r u' => wpY_revert (fun r' v' => r' = r ∧ i_Rel (k + 5) u' v') v) u := by
  refine cp_el (P := fun u v => wpX_revert (fun r u' => wpY_revert (fun r' v' => r' = r ∧ i_Rel (k + 5) u' v') v) u) ?_ I
  intro f_cells f_functions f_limit f_status f_freeCount f_first f_size f_heapSize f_depth f_cur f_inserted f_overflowed a_bodySizes a_opAt a_aAt a_bAt a_baseValue a_settledValue a_outputValue a_changedMark a_cellHead a_cellTail a_kindOf a_subjectOf a_valueOf a_labelOf a_nextOf a_ownerOf a_leaveOf a_pcOf a_snapshot a_cellPrev a_cellNext a_sourceOf a_alive a_queued a_free a_nodeAt a_indexOf a_heap a_frameEnter a_framePc a_frameZone a_frameWait a_frameRegs h_entries h_depth b_kinds b_subjects b_values b_store b_openFunction b_openArg b_openNext b_regs cN fN lN hF
  have hR : i_Rel (k + 5) (nI cN, nI fN, nI lN, f_status, f_freeCount, f_first, f_size, f_heapSize, f_depth, f_cur, f_inserted, f_overflowed, a_bodySizes, a_opAt, a_aAt, a_bAt, a_baseValue, a_settledValue, a_outputValue, a_changedMark, a_cellHead, a_cellTail, a_kindOf, a_subjectOf, a_valueOf, a_labelOf, a_nextOf, a_ownerOf, a_leaveOf, a_pcOf, a_snapshot, a_cellPrev, a_cellNext, a_sourceOf, a_alive, a_queued, a_free, a_nodeAt, a_indexOf, a_heap, a_frameEnter, a_framePc, a_frameZone, a_frameWait, a_frameRegs) (nI cN, nI fN, nI lN, f_status, h_entries, h_depth, a_opAt, a_aAt, a_bAt, a_bodySizes, a_baseValue, a_settledValue, a_outputValue, a_changedMark, b_kinds, b_subjects, b_values, b_store, b_openFunction, b_openArg, b_openNext, b_regs) := cp_in hF
  obtain ⟨hg, hC, hch, hL⟩ := hF
  by_cases h1 : f_status = 1
  case neg => exact br_f h1 (br_f h1 ⟨rfl, hR⟩)
  refine br_t h1 ⟨cN + 1, ?_⟩
  have hY : wpY_revert (fun r' v' => r' = nI (cp_nz (fun c => if a_baseValue c = a_settledValue c then 0 else 1) cN) ∧ i_Rel (k + 5) (nI cN, nI fN, nI lN, f_status, f_freeCount, f_first, f_size, f_heapSize, f_depth, f_cur, f_inserted, f_overflowed, a_bodySizes, a_opAt, a_aAt, a_bAt, cp_fill a_baseValue a_settledValue cN, a_settledValue, a_outputValue, a_changedMark, a_cellHead, a_cellTail, a_kindOf, a_subjectOf, a_valueOf, a_labelOf, a_nextOf, a_ownerOf, a_leaveOf, a_pcOf, a_snapshot, a_cellPrev, a_cellNext, a_sourceOf, a_alive, a_queued, a_free, a_nodeAt, a_indexOf, a_heap, a_frameEnter, a_framePc, a_frameZone, a_frameWait, a_frameRegs) v') (nI cN, nI fN, nI lN, f_status, h_entries, h_depth, a_opAt, a_aAt, a_bAt, a_bodySizes, a_baseValue, a_settledValue, a_outputValue, a_changedMark, b_kinds, b_subjects, b_values, b_store, b_openFunction, b_openArg, b_openNext, b_regs) := by
    refine br_t h1 ⟨cN + 1, ?_⟩
    have := cp_yrevert (post := fun r' v' => r' = nI (cp_nz (fun c => if a_baseValue c = a_settledValue c then 0 else 1) cN) ∧ i_Rel (k + 5) (nI cN, nI fN, nI lN, f_status, f_freeCount, f_first, f_size, f_heapSize, f_depth, f_cur, f_inserted, f_overflowed, a_bodySizes, a_opAt, a_aAt, a_bAt, cp_fill a_baseValue a_settledValue cN, a_settledValue, a_outputValue, a_changedMark, a_cellHead, a_cellTail, a_kindOf, a_subjectOf, a_valueOf, a_labelOf, a_nextOf, a_ownerOf, a_leaveOf, a_pcOf, a_snapshot, a_cellPrev, a_cellNext, a_sourceOf, a_alive, a_queued, a_free, a_nodeAt, a_indexOf, a_heap, a_frameEnter, a_framePc, a_frameZone, a_frameWait, a_frameRegs) v') (cN := cN) (ch := fun c => if a_baseValue c = a_settledValue c then 0 else 1) (h_functions := nI fN) (h_limit := nI lN) (h_state := f_status) (h_entries := h_entries) (h_depth := h_depth) (b_codeOp := a_opAt) (b_codeA := a_aAt) (b_codeB := a_bAt) (b_bodyLength := a_bodySizes) (b_baseValue := a_baseValue) (b_settledValue := a_settledValue) (b_outputValue := a_outputValue) (b_changedMark := a_changedMark) (b_kinds := b_kinds) (b_subjects := b_subjects) (b_values := b_values) (b_store := b_store) (b_openFunction := b_openFunction) (b_openArg := b_openArg) (b_openNext := b_openNext) (b_regs := b_regs) rfl (by omega) (fun _ => rfl) ⟨rfl, cp_in ⟨hg, hC, hch, hL⟩⟩ cN 0 (cN + 1) (by omega) (by omega)
    rw [cp_fill_0] at this
    exact this
  have := cp_xrevert (post := fun r u' => wpY_revert (fun r' v' => r' = r ∧ i_Rel (k + 5) u' v') (nI cN, nI fN, nI lN, f_status, h_entries, h_depth, a_opAt, a_aAt, a_bAt, a_bodySizes, a_baseValue, a_settledValue, a_outputValue, a_changedMark, b_kinds, b_subjects, b_values, b_store, b_openFunction, b_openArg, b_openNext, b_regs)) (cN := cN) (ch := fun c => if a_baseValue c = a_settledValue c then 0 else 1) (f_functions := nI fN) (f_limit := nI lN) (f_status := f_status) (f_freeCount := f_freeCount) (f_first := f_first) (f_size := f_size) (f_heapSize := f_heapSize) (f_depth := f_depth) (f_cur := f_cur) (f_inserted := f_inserted) (f_overflowed := f_overflowed) (a_bodySizes := a_bodySizes) (a_opAt := a_opAt) (a_aAt := a_aAt) (a_bAt := a_bAt) (a_baseValue := a_baseValue) (a_settledValue := a_settledValue) rfl (by omega) (fun _ => rfl) hY cN 0 (cN + 1) (by omega) (by omega)
  rw [cp_fill_0] at this
  exact this
theorem i_vc_run {k : Nat} {u : SX} {v : SY} (I : i_Rel k u v) (hk : k + 5 ≤ 2563) (v1 : Int32) : wpX_run (fun r u' => wpY_run (fun r' v' => r' = r ∧ i_Rel (k + 5) u' v') v v1) u v1 := by
  refine cp_el (P := fun u v => wpX_run (fun r u' => wpY_run (fun r' v' => r' = r ∧ i_Rel (k + 5) u' v') v v1) u v1) ?_ I
  intro f_cells f_functions f_limit f_status f_freeCount f_first f_size f_heapSize f_depth f_cur f_inserted f_overflowed a_bodySizes a_opAt a_aAt a_bAt a_baseValue a_settledValue a_outputValue a_changedMark a_cellHead a_cellTail a_kindOf a_subjectOf a_valueOf a_labelOf a_nextOf a_ownerOf a_leaveOf a_pcOf a_snapshot a_cellPrev a_cellNext a_sourceOf a_alive a_queued a_free a_nodeAt a_indexOf a_heap a_frameEnter a_framePc a_frameZone a_frameWait a_frameRegs h_entries h_depth b_kinds b_subjects b_values b_store b_openFunction b_openArg b_openNext b_regs cN fN lN hF
  obtain ⟨⟨g1, g2, g3, g4, g5, g6⟩, hC, hch, hL⟩ := hF
  refine cp_xrun (cN := cN) (fN := fN) (lN := lN) rfl g1 g2 rfl g3 g4 rfl g5 g6 hC ?_ ?_
  · intro q_freeCount q_first q_heapSize q_depth q_cur q_inserted q_overflowed r_cellHead r_cellTail r_kindOf r_subjectOf r_valueOf r_labelOf r_nextOf r_ownerOf r_leaveOf r_pcOf r_snapshot r_cellPrev r_cellNext r_sourceOf r_alive r_queued r_heap r_frameEnter r_framePc r_frameZone r_frameWait r_frameRegs q_size r_free r_nodeAt r_indexOf hov
    obtain ⟨st, T, ⟨n, hRS⟩, hlt⟩ := hov
    refine cp_yrun (cN := cN) (fN := fN) (lN := lN) rfl g1 g2 g3 g4 rfl g5 g6 hC rfl rfl rfl hRS (Or.inr hlt) ?_ ?_
    · intro u_entries u_depth w_kinds w_subjects w_values w_store w_openFunction w_openArg w_openNext w_regs hle
      omega
    · intro u_entries u_depth w_kinds w_subjects w_values w_store w_openFunction w_openArg w_openNext w_regs _
      exact ⟨rfl, cp_in ⟨⟨g1, g2, g3, g4, g5, g6⟩, hC, hch, fun h => absurd h (by decide)⟩⟩
  · intro q_freeCount q_first q_heapSize q_depth q_cur q_inserted q_overflowed r_cellHead r_cellTail r_kindOf r_subjectOf r_valueOf r_labelOf r_nextOf r_ownerOf r_leaveOf r_pcOf r_snapshot r_cellPrev r_cellNext r_sourceOf r_alive r_queued r_heap r_frameEnter r_framePc r_frameZone r_frameWait r_frameRegs q_size r_free r_nodeAt r_indexOf fc W hLX hRe
    generalize hg : ((0, 0, 0, v1, 0, 0, fun _ => 0) : cp_N) = g0 at hLX hRe ⊢
    have gk : cp_k g0 = 0 := by rw [← hg]
    have gs : cp_s g0 = 0 := by rw [← hg]
    have gv : cp_v g0 = v1 := by rw [← hg]
    have hcon := cp_Re_con gk hRe
    obtain ⟨n, hRS⟩ := hRe
    refine cp_yrun (cN := cN) (fN := fN) (lN := lN) rfl g1 g2 g3 g4 rfl g5 g6 hC gk gs gv hRS (Or.inl ⟨rfl, hLX.2.1⟩) ?_ ?_
    · intro u_entries u_depth w_kinds w_subjects w_values w_store w_openFunction w_openArg w_openNext w_regs hle he hT
      refine ⟨rfl, cp_in ⟨⟨g1, g2, g3, g4, g5, g6⟩, hC, fun c => ?_, fun _ => ⟨fc, g0, W, hLX, fun a g b e kk => ?_, he, hT⟩⟩⟩
      · by_cases h : c < cN
        · exact Or.inl (if_pos h)
        · rw [show cp_fill a_changedMark (fun _ => 0) cN c = a_changedMark c from if_neg h]; exact hch c
      · have h1 := hcon a g b e kk
        have hgm : g ∈ [g0] ++ W := by show g ∈ g0 :: W; rw [e]; exact List.mem_append.mpr (Or.inr List.mem_cons_self)
        have hsl := (hLX.1.2.1 g hgm).2.2.2.2.1 (Or.inl kk)
        rw [h1]
        unfold cp_sto
        rw [show cp_fill a_settledValue a_baseValue cN (cp_s g) = a_baseValue (cp_s g) from if_pos hsl]
    · intro u_entries u_depth w_kinds w_subjects w_values w_store w_openFunction w_openArg w_openNext w_regs hlt
      have := hLX.2.1
      omega
theorem i_vc_propagate {k : Nat} {u : SX} {v : SY} (I : i_Rel k u v) (hk : k + 5 ≤ 2563) : wpX_propagate (fun r u' => wpY_propagate (fun r' v' => r' = r ∧ i_Rel (k + 5) u' v') v) u := by
  refine cp_el (P := fun u v => wpX_propagate (fun r u' => wpY_propagate (fun r' v' => r' = r ∧ i_Rel (k + 5) u' v') v) u) ?_ I
  intro f_cells f_functions f_limit f_status f_freeCount f_first f_size f_heapSize f_depth f_cur f_inserted f_overflowed a_bodySizes a_opAt a_aAt a_bAt a_baseValue a_settledValue a_outputValue a_changedMark a_cellHead a_cellTail a_kindOf a_subjectOf a_valueOf a_labelOf a_nextOf a_ownerOf a_leaveOf a_pcOf a_snapshot a_cellPrev a_cellNext a_sourceOf a_alive a_queued a_free a_nodeAt a_indexOf a_heap a_frameEnter a_framePc a_frameZone a_frameWait a_frameRegs h_entries h_depth b_kinds b_subjects b_values b_store b_openFunction b_openArg b_openNext b_regs cN fN lN hF
  have hR : i_Rel (k + 5) (nI cN, nI fN, nI lN, f_status, f_freeCount, f_first, f_size, f_heapSize, f_depth, f_cur, f_inserted, f_overflowed, a_bodySizes, a_opAt, a_aAt, a_bAt, a_baseValue, a_settledValue, a_outputValue, a_changedMark, a_cellHead, a_cellTail, a_kindOf, a_subjectOf, a_valueOf, a_labelOf, a_nextOf, a_ownerOf, a_leaveOf, a_pcOf, a_snapshot, a_cellPrev, a_cellNext, a_sourceOf, a_alive, a_queued, a_free, a_nodeAt, a_indexOf, a_heap, a_frameEnter, a_framePc, a_frameZone, a_frameWait, a_frameRegs) (nI cN, nI fN, nI lN, f_status, h_entries, h_depth, a_opAt, a_aAt, a_bAt, a_bodySizes, a_baseValue, a_settledValue, a_outputValue, a_changedMark, b_kinds, b_subjects, b_values, b_store, b_openFunction, b_openArg, b_openNext, b_regs) := cp_in hF
  obtain ⟨⟨g1, g2, g3, g4, g5, g6⟩, hC, hch, hL⟩ := hF
  by_cases h1 : f_status = 1
  case neg => exact br_f h1 (br_f h1 ⟨rfl, hR⟩)
  obtain ⟨fc, g0, W, hLX, hset, he0, hT0⟩ := hL h1
  have gk : cp_k g0 = 0 := hLX.2.2.2.2.2.2.2.2.1
  have gs : cp_s g0 = 0 := hLX.2.2.2.2.2.2.2.2.2.1
  have gv : cp_v g0 = b_values 0 := hT0.2.2.1.symm
  refine cp_xprop (cN := cN) (fN := fN) (lN := lN) h1 hLX hC hset ?_ ?_
  · intro q_freeCount q_first q_heapSize q_depth q_cur q_inserted q_overflowed r_cellHead r_cellTail r_kindOf r_subjectOf r_valueOf r_labelOf r_nextOf r_ownerOf r_leaveOf r_pcOf r_snapshot r_cellPrev r_cellNext r_sourceOf r_alive r_queued r_heap r_frameEnter r_framePc r_frameZone r_frameWait r_frameRegs q_size r_free r_nodeAt r_indexOf hov
    obtain ⟨st, T, ⟨n, hRS⟩, hlt⟩ := hov
    refine cp_yprop (cN := cN) (fN := fN) (lN := lN) (ch := fun c => if cp_sto a_baseValue T c = a_outputValue c then 0 else 1) h1 rfl g1 g2 g3 g4 rfl g5 g6 hC gk gs gv hRS (Or.inr hlt) (fun _ => rfl) ?_ ?_
    · intro u_entries u_depth w_kinds w_subjects w_values w_store w_openFunction w_openArg w_openNext w_regs hle
      omega
    · intro u_entries u_depth w_kinds w_subjects w_values w_store w_openFunction w_openArg w_openNext w_regs _
      exact ⟨rfl, cp_in ⟨⟨g1, g2, g3, g4, g5, g6⟩, hC, hch, fun h => absurd h (by decide)⟩⟩
  · intro q_freeCount q_first q_heapSize q_depth q_cur q_inserted q_overflowed r_cellHead r_cellTail r_kindOf r_subjectOf r_valueOf r_labelOf r_nextOf r_ownerOf r_leaveOf r_pcOf r_snapshot r_cellPrev r_cellNext r_sourceOf r_alive r_queued r_heap r_frameEnter r_framePc r_frameZone r_frameWait r_frameRegs q_size r_free r_nodeAt r_indexOf fc' W' ch hchd hLX' hRe
    have hcon := cp_Re_con gk hRe
    obtain ⟨n, hRS⟩ := hRe
    refine cp_yprop (cN := cN) (fN := fN) (lN := lN) (ch := ch) h1 rfl g1 g2 g3 g4 rfl g5 g6 hC gk gs gv hRS (Or.inl ⟨rfl, hLX'.2.1⟩) hchd ?_ ?_
    · intro u_entries u_depth w_kinds w_subjects w_values w_store w_openFunction w_openArg w_openNext w_regs hle he hT
      refine ⟨rfl, cp_in ⟨⟨g1, g2, g3, g4, g5, g6⟩, hC, fun c => ?_, fun _ => ⟨fc', g0, W', hLX', fun a g b e kk => ?_, he, hT⟩⟩⟩
      · by_cases h : c < cN
        · rw [show cp_fill a_changedMark ch cN c = ch c from if_pos h, hchd]
          split
          · exact Or.inl rfl
          · exact Or.inr rfl
        · rw [show cp_fill a_changedMark ch cN c = a_changedMark c from if_neg h]; exact hch c
      · have h2 := hcon a g b e kk
        have hgm : g ∈ [g0] ++ W' := by show g ∈ g0 :: W'; rw [e]; exact List.mem_append.mpr (Or.inr List.mem_cons_self)
        have hsl := (hLX'.1.2.1 g hgm).2.2.2.2.1 (Or.inl kk)
        rw [h2]
        unfold cp_sto
        rw [show cp_fill a_settledValue a_baseValue cN (cp_s g) = a_baseValue (cp_s g) from if_pos hsl]
    · intro u_entries u_depth w_kinds w_subjects w_values w_store w_openFunction w_openArg w_openNext w_regs hlt
      have := hLX'.2.1
      omega
end
section
/-! ===== queries of the finished trace ===== -/
theorem cp_at : ∀ (L : List cp_N) (j : Nat), j < L.length → ∃ a g b, L = a ++ g :: b ∧ a.length = j
  | [], j, h => by cases h
  | g :: t, 0, _ => ⟨[], g, t, rfl, rfl⟩
  | g :: t, j + 1, h => by
    obtain ⟨a, x, b, e, hl⟩ := cp_at t j (Nat.lt_of_succ_lt_succ h)
    exact ⟨g :: a, x, b, by rw [e]; rfl, by show a.length + 1 = j + 1; rw [hl]⟩
theorem cp_Tr_at {ks sb vs : Nat → Int32} {a b : List cp_N} {g : cp_N} (h : cp_Tr ks sb vs 0 (a ++ g :: b)) : ks a.length = cp_k g ∧ sb a.length = nI (cp_s g) ∧ vs a.length = cp_v g := by
  have := ((cp_Tr_app _ _ _).mp h).2
  rw [Nat.zero_add] at this
  exact ⟨this.1, this.2.1, this.2.2.1⟩
section
variable {f_cells f_functions f_limit f_status f_freeCount f_first f_size f_heapSize f_depth f_cur f_inserted f_overflowed : Int32} {a_bodySizes a_opAt a_aAt a_bAt a_baseValue a_settledValue a_outputValue a_changedMark a_cellHead a_cellTail a_kindOf a_subjectOf a_valueOf a_labelOf a_nextOf a_ownerOf a_leaveOf a_pcOf a_snapshot a_cellPrev a_cellNext a_sourceOf a_alive a_queued a_free a_nodeAt a_indexOf a_heap a_frameEnter a_framePc a_frameZone a_frameWait a_frameRegs : Nat → Int32}
variable {h_entries h_depth : Int32} {b_kinds b_subjects b_values b_store b_openFunction b_openArg b_openNext b_regs : Nat → Int32} {cN fN lN : Nat}
theorem cp_q (hF : cp_Fa cN fN lN (nI cN) (nI fN) (nI lN) f_status f_freeCount f_first f_size f_heapSize f_depth f_cur f_inserted f_overflowed a_bodySizes a_opAt a_aAt a_bAt a_baseValue a_settledValue a_outputValue a_changedMark a_cellHead a_cellTail a_kindOf a_subjectOf a_valueOf a_labelOf a_nextOf a_ownerOf a_leaveOf a_pcOf a_snapshot a_cellPrev a_cellNext a_sourceOf a_alive a_queued a_free a_nodeAt a_indexOf a_heap a_frameEnter a_framePc a_frameZone a_frameWait a_frameRegs h_entries h_depth b_kinds b_subjects b_values b_store b_openFunction b_openArg b_openNext b_regs) (p : Int32) :
    ((∀ post : Int32 → Prop, post (-1) → wpX_nodeNumbered post (nI cN, nI fN, nI lN, f_status, f_freeCount, f_first, f_size, f_heapSize, f_depth, f_cur, f_inserted, f_overflowed, a_bodySizes, a_opAt, a_aAt, a_bAt, a_baseValue, a_settledValue, a_outputValue, a_changedMark, a_cellHead, a_cellTail, a_kindOf, a_subjectOf, a_valueOf, a_labelOf, a_nextOf, a_ownerOf, a_leaveOf, a_pcOf, a_snapshot, a_cellPrev, a_cellNext, a_sourceOf, a_alive, a_queued, a_free, a_nodeAt, a_indexOf, a_heap, a_frameEnter, a_framePc, a_frameZone, a_frameWait, a_frameRegs) p) ∧ (∀ post : Int32 → Prop, post 0 → wpY_inRange post (nI cN, nI fN, nI lN, f_status, h_entries, h_depth, a_opAt, a_aAt, a_bAt, a_bodySizes, a_baseValue, a_settledValue, a_outputValue, a_changedMark, b_kinds, b_subjects, b_values, b_store, b_openFunction, b_openArg, b_openNext, b_regs) p)) ∨
    (∃ fc g0 W a g b, f_status = 1 ∧ cp_LX cN fN lN fc g0 W (nI cN) (nI fN) (nI lN) f_status f_freeCount f_first f_size f_heapSize f_depth f_cur f_inserted f_overflowed a_bodySizes a_opAt a_aAt a_bAt a_baseValue a_settledValue a_outputValue a_changedMark a_cellHead a_cellTail a_kindOf a_subjectOf a_valueOf a_labelOf a_nextOf a_ownerOf a_leaveOf a_pcOf a_snapshot a_cellPrev a_cellNext a_sourceOf a_alive a_queued a_free a_nodeAt a_indexOf a_heap a_frameEnter a_framePc a_frameZone a_frameWait a_frameRegs ∧ h_entries = nI (g0 :: W).length ∧ cp_Tr b_kinds b_subjects b_values 0 (g0 :: W) ∧ g0 :: W = a ++ g :: b ∧ p = nI a.length ∧ a.length < (g0 :: W).length ∧ (g0 :: W).length ≤ 120 ∧
      (∀ post : Int32 → Prop, post (nI (cp_id g)) → wpX_nodeNumbered post (nI cN, nI fN, nI lN, f_status, f_freeCount, f_first, f_size, f_heapSize, f_depth, f_cur, f_inserted, f_overflowed, a_bodySizes, a_opAt, a_aAt, a_bAt, a_baseValue, a_settledValue, a_outputValue, a_changedMark, a_cellHead, a_cellTail, a_kindOf, a_subjectOf, a_valueOf, a_labelOf, a_nextOf, a_ownerOf, a_leaveOf, a_pcOf, a_snapshot, a_cellPrev, a_cellNext, a_sourceOf, a_alive, a_queued, a_free, a_nodeAt, a_indexOf, a_heap, a_frameEnter, a_framePc, a_frameZone, a_frameWait, a_frameRegs) p) ∧ (∀ post : Int32 → Prop, post 1 → wpY_inRange post (nI cN, nI fN, nI lN, f_status, h_entries, h_depth, a_opAt, a_aAt, a_bAt, a_bodySizes, a_baseValue, a_settledValue, a_outputValue, a_changedMark, b_kinds, b_subjects, b_values, b_store, b_openFunction, b_openArg, b_openNext, b_regs) p)) := by
  obtain ⟨⟨g1, g2, g3, g4, g5, g6⟩, hC, hch, hL⟩ := hF
  by_cases h1 : f_status = 1
  case neg => exact Or.inl ⟨fun post h => br_f h1 h, fun post h => br_f h1 h⟩
  obtain ⟨fc, g0, W, hLX, hset, he0, hT0⟩ := hL h1
  have hle := hLX.2.1
  have hsz := hLX.2.2.1
  rcases pk_ix p (n := (g0 :: W).length) (by omega) with h2 | h2 | ⟨j, hj, rfl⟩
  · exact Or.inl ⟨fun post h => br_t h1 (br_t h2 h), fun post h => br_t h1 (br_t h2 h)⟩
  · by_cases h2' : p < 0
    · exact Or.inl ⟨fun post h => br_t h1 (br_t h2' h), fun post h => br_t h1 (br_t h2' h)⟩
    · exact Or.inl ⟨fun post h => br_t h1 (br_f h2' (br_f (by rw [hsz]; exact (cp_ge _ _).mp h2) h)), fun post h => br_t h1 (br_f h2' (br_t (by rw [he0]; exact h2) h))⟩
  · obtain ⟨a, g, b, e, rfl⟩ := cp_at _ _ hj
    refine Or.inr ⟨fc, g0, W, a, g, b, h1, hLX, he0, hT0, e, rfl, hj, by omega, fun post h => ?_, fun post h => ?_⟩
    · have hIx := hLX.2.2.2.1
      rw [e] at hIx
      have hna := (cp_Ix_at hIx).1
      refine br_t h1 (br_f (nI_pos (by omega)) (br_t (by rw [hsz]; exact nI_lt hj (by omega)) (And.intro (vp_in_nI (by omega) (by decide)) ?_)))
      rw [nI_clamp (n := a.length) (by omega), hna]; exact h
    · exact br_t h1 (br_f (nI_pos (by omega)) (br_f (by rw [he0]; exact nI_ge hj (by omega)) h))
end
theorem i_vc_traceKind {k : Nat} {u : SX} {v : SY} (I : i_Rel k u v) (hk : k + 5 ≤ 2563) (v1 : Int32) : wpX_traceKind (fun r => wpY_traceKind (fun r' => r' = r ∧ i_Rel (k + 5) u v) v v1) u v1 := by
  refine cp_el (P := fun u v => wpX_traceKind (fun r => wpY_traceKind (fun r' => r' = r ∧ i_Rel (k + 5) u v) v v1) u v1) ?_ I
  intro f_cells f_functions f_limit f_status f_freeCount f_first f_size f_heapSize f_depth f_cur f_inserted f_overflowed a_bodySizes a_opAt a_aAt a_bAt a_baseValue a_settledValue a_outputValue a_changedMark a_cellHead a_cellTail a_kindOf a_subjectOf a_valueOf a_labelOf a_nextOf a_ownerOf a_leaveOf a_pcOf a_snapshot a_cellPrev a_cellNext a_sourceOf a_alive a_queued a_free a_nodeAt a_indexOf a_heap a_frameEnter a_framePc a_frameZone a_frameWait a_frameRegs h_entries h_depth b_kinds b_subjects b_values b_store b_openFunction b_openArg b_openNext b_regs cN fN lN hF
  have hR : i_Rel (k + 5) (nI cN, nI fN, nI lN, f_status, f_freeCount, f_first, f_size, f_heapSize, f_depth, f_cur, f_inserted, f_overflowed, a_bodySizes, a_opAt, a_aAt, a_bAt, a_baseValue, a_settledValue, a_outputValue, a_changedMark, a_cellHead, a_cellTail, a_kindOf, a_subjectOf, a_valueOf, a_labelOf, a_nextOf, a_ownerOf, a_leaveOf, a_pcOf, a_snapshot, a_cellPrev, a_cellNext, a_sourceOf, a_alive, a_queued, a_free, a_nodeAt, a_indexOf, a_heap, a_frameEnter, a_framePc, a_frameZone, a_frameWait, a_frameRegs) (nI cN, nI fN, nI lN, f_status, h_entries, h_depth, a_opAt, a_aAt, a_bAt, a_bodySizes, a_baseValue, a_settledValue, a_outputValue, a_changedMark, b_kinds, b_subjects, b_values, b_store, b_openFunction, b_openArg, b_openNext, b_regs) := cp_in hF
  unfold wpX_traceKind wpY_traceKind
  rcases cp_q hF v1 with ⟨hx, hy⟩ | ⟨fc, g0, W, a, g, b, h1, hLX, he0, hT0, e, rfl, hj, hl, hx, hy⟩
  · exact hx _ (br_f (by decide) (hy _ (br_t rfl ⟨rfl, hR⟩)))
  · have hgm : g ∈ [g0] ++ W := by show g ∈ g0 :: W; rw [e]; exact List.mem_append.mpr (Or.inr List.mem_cons_self)
    have hgR := hLX.1.2.1 g hgm
    have hgi := hgR.1.1
    rw [e] at hT0
    have hT := cp_Tr_at hT0
    refine hx _ (br_t (nI_pos' (by omega)) (And.intro (vp_in_nI hgi (by decide)) (hy _ (br_f (by decide) (And.intro (vp_in_nI (by omega) (by decide)) ⟨?_, hR⟩)))))
    rw [nI_clamp (n := a.length) (by omega), nI_clamp (n := cp_id g) (by omega), hT.1, hgR.1.2.1]
theorem i_vc_traceSubject {k : Nat} {u : SX} {v : SY} (I : i_Rel k u v) (hk : k + 5 ≤ 2563) (v1 : Int32) : wpX_traceSubject (fun r => wpY_traceSubject (fun r' => r' = r ∧ i_Rel (k + 5) u v) v v1) u v1 := by
  refine cp_el (P := fun u v => wpX_traceSubject (fun r => wpY_traceSubject (fun r' => r' = r ∧ i_Rel (k + 5) u v) v v1) u v1) ?_ I
  intro f_cells f_functions f_limit f_status f_freeCount f_first f_size f_heapSize f_depth f_cur f_inserted f_overflowed a_bodySizes a_opAt a_aAt a_bAt a_baseValue a_settledValue a_outputValue a_changedMark a_cellHead a_cellTail a_kindOf a_subjectOf a_valueOf a_labelOf a_nextOf a_ownerOf a_leaveOf a_pcOf a_snapshot a_cellPrev a_cellNext a_sourceOf a_alive a_queued a_free a_nodeAt a_indexOf a_heap a_frameEnter a_framePc a_frameZone a_frameWait a_frameRegs h_entries h_depth b_kinds b_subjects b_values b_store b_openFunction b_openArg b_openNext b_regs cN fN lN hF
  have hR : i_Rel (k + 5) (nI cN, nI fN, nI lN, f_status, f_freeCount, f_first, f_size, f_heapSize, f_depth, f_cur, f_inserted, f_overflowed, a_bodySizes, a_opAt, a_aAt, a_bAt, a_baseValue, a_settledValue, a_outputValue, a_changedMark, a_cellHead, a_cellTail, a_kindOf, a_subjectOf, a_valueOf, a_labelOf, a_nextOf, a_ownerOf, a_leaveOf, a_pcOf, a_snapshot, a_cellPrev, a_cellNext, a_sourceOf, a_alive, a_queued, a_free, a_nodeAt, a_indexOf, a_heap, a_frameEnter, a_framePc, a_frameZone, a_frameWait, a_frameRegs) (nI cN, nI fN, nI lN, f_status, h_entries, h_depth, a_opAt, a_aAt, a_bAt, a_bodySizes, a_baseValue, a_settledValue, a_outputValue, a_changedMark, b_kinds, b_subjects, b_values, b_store, b_openFunction, b_openArg, b_openNext, b_regs) := cp_in hF
  unfold wpX_traceSubject wpY_traceSubject
  rcases cp_q hF v1 with ⟨hx, hy⟩ | ⟨fc, g0, W, a, g, b, h1, hLX, he0, hT0, e, rfl, hj, hl, hx, hy⟩
  · exact hx _ (br_f (by decide) (hy _ (br_t rfl ⟨rfl, hR⟩)))
  · have hgm : g ∈ [g0] ++ W := by show g ∈ g0 :: W; rw [e]; exact List.mem_append.mpr (Or.inr List.mem_cons_self)
    have hgR := hLX.1.2.1 g hgm
    have hgi := hgR.1.1
    rw [e] at hT0
    have hT := cp_Tr_at hT0
    refine hx _ (br_t (nI_pos' (by omega)) (And.intro (vp_in_nI hgi (by decide)) (hy _ (br_f (by decide) (And.intro (vp_in_nI (by omega) (by decide)) ⟨?_, hR⟩)))))
    rw [nI_clamp (n := a.length) (by omega), nI_clamp (n := cp_id g) (by omega), hT.2.1, hgR.1.2.2.1]
theorem i_vc_traceValue {k : Nat} {u : SX} {v : SY} (I : i_Rel k u v) (hk : k + 5 ≤ 2563) (v1 : Int32) : wpX_traceValue (fun r => wpY_traceValue (fun r' => r' = r ∧ i_Rel (k + 5) u v) v v1) u v1 := by
  refine cp_el (P := fun u v => wpX_traceValue (fun r => wpY_traceValue (fun r' => r' = r ∧ i_Rel (k + 5) u v) v v1) u v1) ?_ I
  intro f_cells f_functions f_limit f_status f_freeCount f_first f_size f_heapSize f_depth f_cur f_inserted f_overflowed a_bodySizes a_opAt a_aAt a_bAt a_baseValue a_settledValue a_outputValue a_changedMark a_cellHead a_cellTail a_kindOf a_subjectOf a_valueOf a_labelOf a_nextOf a_ownerOf a_leaveOf a_pcOf a_snapshot a_cellPrev a_cellNext a_sourceOf a_alive a_queued a_free a_nodeAt a_indexOf a_heap a_frameEnter a_framePc a_frameZone a_frameWait a_frameRegs h_entries h_depth b_kinds b_subjects b_values b_store b_openFunction b_openArg b_openNext b_regs cN fN lN hF
  have hR : i_Rel (k + 5) (nI cN, nI fN, nI lN, f_status, f_freeCount, f_first, f_size, f_heapSize, f_depth, f_cur, f_inserted, f_overflowed, a_bodySizes, a_opAt, a_aAt, a_bAt, a_baseValue, a_settledValue, a_outputValue, a_changedMark, a_cellHead, a_cellTail, a_kindOf, a_subjectOf, a_valueOf, a_labelOf, a_nextOf, a_ownerOf, a_leaveOf, a_pcOf, a_snapshot, a_cellPrev, a_cellNext, a_sourceOf, a_alive, a_queued, a_free, a_nodeAt, a_indexOf, a_heap, a_frameEnter, a_framePc, a_frameZone, a_frameWait, a_frameRegs) (nI cN, nI fN, nI lN, f_status, h_entries, h_depth, a_opAt, a_aAt, a_bAt, a_bodySizes, a_baseValue, a_settledValue, a_outputValue, a_changedMark, b_kinds, b_subjects, b_values, b_store, b_openFunction, b_openArg, b_openNext, b_regs) := cp_in hF
  unfold wpX_traceValue wpY_traceValue
  rcases cp_q hF v1 with ⟨hx, hy⟩ | ⟨fc, g0, W, a, g, b, h1, hLX, he0, hT0, e, rfl, hj, hl, hx, hy⟩
  · exact hx _ (br_f (by decide) (hy _ (br_t rfl ⟨rfl, hR⟩)))
  · have hgm : g ∈ [g0] ++ W := by show g ∈ g0 :: W; rw [e]; exact List.mem_append.mpr (Or.inr List.mem_cons_self)
    have hgR := hLX.1.2.1 g hgm
    have hgi := hgR.1.1
    rw [e] at hT0
    have hT := cp_Tr_at hT0
    refine hx _ (br_t (nI_pos' (by omega)) (And.intro (vp_in_nI hgi (by decide)) (hy _ (br_f (by decide) (And.intro (vp_in_nI (by omega) (by decide)) ⟨?_, hR⟩)))))
    rw [nI_clamp (n := a.length) (by omega), nI_clamp (n := cp_id g) (by omega), hT.2.2, hgR.1.2.2.2.1]
/-! traceEnd -/
/-- scanning c from level d meets no LEAVE of level 0 and ends at level 0 -/
def cp_Bl : Nat → List cp_N → Prop
  | d, [] => d = 0
  | d, g :: t => (cp_k g = 0 ∧ cp_Bl (d + 1) t) ∨ (cp_k g = 3 ∧ ∃ e, d = e + 1 ∧ cp_Bl e t) ∨ (¬ cp_k g = 0 ∧ ¬ cp_k g = 3 ∧ cp_Bl d t)
theorem cp_Bl_app {t : List cp_N} {e : Nat} (ht : cp_Bl e t) : ∀ (d : Nat) (c : List cp_N), cp_Bl d c → cp_Bl (d + e) (c ++ t)
  | d, [], h => by
    have : d = 0 := h
    subst this
    rw [Nat.zero_add]; exact ht
  | d, g :: c, h => by
    rcases h with ⟨h1, h2⟩ | ⟨h1, e', rfl, h2⟩ | ⟨h1, h2, h3⟩
    · refine Or.inl ⟨h1, ?_⟩
      have := cp_Bl_app ht (d + 1) c h2
      rw [show d + e + 1 = d + 1 + e by omega]; exact this
    · refine Or.inr (Or.inl ⟨h1, e' + e, by omega, cp_Bl_app ht e' c h2⟩)
    · exact Or.inr (Or.inr ⟨h1, h2, cp_Bl_app ht d c h3⟩)
theorem cp_OR_top {C : cp_C} : ∀ (N n : Nat) (A : cp_F) (R : List cp_F) (W : List cp_N), n ≤ N → cp_OR C n (A :: R) W → ∃ c z d m, W = c ++ z :: d ∧ cp_Bl 0 c ∧ cp_k z = 3 ∧ cp_o z = A.1 ∧ m < n ∧ cp_OR C m R d
  | _, 0, A, R, W, _, h => by have := h.1; cases this
  | 0, n + 1, A, R, W, hn, h => by omega
  | N + 1, n + 1, A, R, W, hn, h => by
    rcases h with ⟨V', ht, hr⟩ | ⟨g, V', W', rfl, hc, hr⟩
    · obtain ⟨B, B', R', e, hp, hs, rfl⟩ := ht
      obtain ⟨rfl, rfl⟩ := List.cons.inj e
      obtain ⟨c, z, d, m, h1, h2, h3, h4, h5, h6⟩ := cp_OR_top N n B' R W (by omega) hr
      exact ⟨c, z, d, m, h1, h2, h3, h4.trans (cp_sil_same hs).1, by omega, h6⟩
    · obtain ⟨B, R', e, hc⟩ := hc
      obtain ⟨rfl, rfl⟩ := List.cons.inj e
      rcases hc with ⟨h1, h2, h3, h4, h5, h6, h7, rfl⟩ | ⟨h1, h2, h3, h4, h5, h6, rfl⟩ | ⟨h1, h2, h3, h4, h5, rfl⟩ | ⟨h1, h2, h3, h4, h5, h6, rfl⟩
      · obtain ⟨c, z, d, m, k1, k2, k3, k4, k5, k6⟩ := cp_OR_top N n _ R W' (by omega) hr
        exact ⟨g :: c, z, d, m, by rw [k1]; rfl, Or.inr (Or.inr ⟨by rw [h3]; decide, by rw [h3]; decide, k2⟩), k3, k4, by omega, k6⟩
      · obtain ⟨c, z, d, m, k1, k2, k3, k4, k5, k6⟩ := cp_OR_top N n _ R W' (by omega) hr
        exact ⟨g :: c, z, d, m, by rw [k1]; rfl, Or.inr (Or.inr ⟨by rw [h3]; decide, by rw [h3]; decide, k2⟩), k3, k4, by omega, k6⟩
      · exact ⟨[], g, W', n, rfl, rfl, h2, h5, by omega, hr⟩
      · obtain ⟨c, z, d, m, k1, k2, k3, k4, k5, k6⟩ := cp_OR_top N n _ _ W' (by omega) hr
        obtain ⟨c', z', d', m', q1, q2, q3, q4, q5, q6⟩ := cp_OR_top N m _ R d (by omega) k6
        refine ⟨g :: (c ++ z :: c'), z', d', m', by rw [k1, q1]; simp, Or.inl ⟨h3, ?_⟩, q3, q4, by omega, q6⟩
        have := cp_Bl_app (t := z :: c') (e := 1) (Or.inr (Or.inl ⟨k3, 0, rfl, q2⟩)) 0 c k2
        exact this
theorem cp_OR_at {C : cp_C} : ∀ (n : Nat) (V : List cp_F) (P : List cp_N) (g : cp_N) (Q : List cp_N), cp_OR C n V (P ++ g :: Q) → ∃ V1 V' m, cp_OC C V1 g V' ∧ cp_OR C m V' Q
  | 0, V, P, g, Q, h => by
    have := h.2
    cases P <;> cases this
  | n + 1, V, P, g, Q, h => by
    rcases h with ⟨V', ht, hr⟩ | ⟨x, V', W', e, hc, hr⟩
    · exact cp_OR_at n V' P g Q hr
    · cases P with
      | nil =>
        obtain ⟨rfl, rfl⟩ := List.cons.inj e
        exact ⟨V, V', n, hc, hr⟩
      | cons y P' =>
        obtain ⟨rfl, e'⟩ := List.cons.inj e
        have e'' : W' = P' ++ g :: Q := e'.symm
        subst e''
        exact cp_OR_at n V' P' g Q hr
/-- the LEAVE of a node's activation -/
theorem cp_leave {C : cp_C} {g0 g : cp_N} {W a b : List cp_N} (hR : cp_Rp C [cp_nf g0] W) (hk0 : cp_k g0 = 0) (ho0 : cp_o g0 = cp_id g0) (e : g0 :: W = a ++ g :: b) (h3 : ¬ cp_k g = 3) : ∃ c z d, b = c ++ z :: d ∧ cp_Bl 0 c ∧ cp_k z = 3 ∧ cp_o z = cp_o g := by
  obtain ⟨n, hR⟩ := hR
  cases a with
  | nil =>
    obtain ⟨rfl, rfl⟩ := List.cons.inj e
    obtain ⟨c, z, d, m, k1, k2, k3, k4, _⟩ := cp_OR_top n n _ _ _ (Nat.le_refl _) hR
    exact ⟨c, z, d, k1, k2, k3, k4.trans ho0.symm⟩
  | cons y a' =>
    obtain ⟨_, e'⟩ := List.cons.inj e
    have e'' : W = a' ++ g :: b := e'
    subst e''
    obtain ⟨V1, V', m, hOC, hOR⟩ := cp_OR_at n _ a' g b hR
    obtain ⟨A, R, rfl, hOC⟩ := hOC
    rcases hOC with ⟨h1, h2, h4, h5, go, h6, h7, rfl⟩ | ⟨h1, h2, h4, h5, h6, go, rfl⟩ | ⟨h1, h2, _⟩ | ⟨h1, h2, h4, h5, h6, go, rfl⟩
    · obtain ⟨c, z, d, m, k1, k2, k3, k4, _⟩ := cp_OR_top m m _ _ _ (Nat.le_refl _) hOR
      exact ⟨c, z, d, k1, k2, k3, k4.trans go.symm⟩
    · obtain ⟨c, z, d, m, k1, k2, k3, k4, _⟩ := cp_OR_top m m _ _ _ (Nat.le_refl _) hOR
      exact ⟨c, z, d, k1, k2, k3, k4.trans go.symm⟩
    · exact absurd h2 h3
    · obtain ⟨c, z, d, m, k1, k2, k3, k4, _⟩ := cp_OR_top m m _ _ _ (Nat.le_refl _) hOR
      exact ⟨c, z, d, k1, k2, k3, k4.trans go.symm⟩
section
variable {h_cells h_functions h_limit h_state h_entries h_depth : Int32} {b_codeOp b_codeA b_codeB b_bodyLength b_baseValue b_settledValue b_outputValue b_changedMark b_kinds b_subjects b_values b_store b_openFunction b_openArg b_openNext b_regs : Nat → Int32}
theorem cp_yend {post : Int32 → Prop} {N : Nat} {z : cp_N} {t : List cp_N} (he : h_entries = nI N) (hN : N ≤ 120) (hz : cp_k z = 3) :
    ∀ (c : List cp_N) (d i m : Nat), cp_Tr b_kinds b_subjects b_values i (c ++ z :: t) → cp_Bl d c → i + c.length < N → d ≤ i → c.length < m → post (nI (i + c.length)) → wY_traceEnd_28 post h_cells h_functions h_limit h_state h_entries h_depth b_codeOp b_codeA b_codeB b_bodyLength b_baseValue b_settledValue b_outputValue b_changedMark b_kinds b_subjects b_values b_store b_openFunction b_openArg b_openNext b_regs m (nI d) (nI i) := by
  intro c
  induction c with
  | nil =>
    intro d i m hT hB hi hd hm hp
    obtain ⟨m, rfl⟩ : ∃ m', m = m' + 1 := ⟨m - 1, by have : ([] : List cp_N).length = 0 := rfl; omega⟩
    have hd0 : d = 0 := hB
    subst hd0
    have hi' : i < N := hi
    have ini : vp_in (nI i) 120 := vp_in_nI (by omega) (by decide)
    have ks : b_kinds i = 3 := hT.1.trans hz
    refine br_f (by rw [he]; exact nI_ge hi' (by omega)) (And.intro ini ?_)
    rw [nI_clamp (n := i) (by omega), ks]
    exact br_f (by decide) (And.intro ini (br_t rfl (br_t rfl hp)))
  | cons g c ih =>
    intro d i m hT hB hi hd hm hp
    have hlen : (g :: c).length = c.length + 1 := rfl
    obtain ⟨m, rfl⟩ : ∃ m', m = m' + 1 := ⟨m - 1, by omega⟩
    have ini : vp_in (nI i) 120 := vp_in_nI (by omega) (by decide)
    have ks : b_kinds i = cp_k g := hT.1
    have hT' := hT.2.2.2
    have hp' : post (nI (i + 1 + c.length)) := by rw [hlen] at hp; rw [show i + 1 + c.length = i + (c.length + 1) by omega]; exact hp
    refine br_f (by rw [he]; exact nI_ge (by omega) (by omega)) (And.intro ini ?_)
    rw [nI_clamp (n := i) (by omega), ks]
    rcases hB with ⟨h1, h2⟩ | ⟨h1, e', rfl, h2⟩ | ⟨h1, h2, h3⟩
    · exact br_t h1 (nm_r (nI_1 _) (nm_r (nI_1 _) (ih (d + 1) (i + 1) m hT' h2 (by omega) (by omega) (by omega) hp')))
    · refine br_f (by rw [h1]; decide) (And.intro ini (br_t h1 (br_f (nI_ne0 (by omega) (by omega)) (nm_r (pk_m1 _) (nm_r (nI_1 _) ?_)))))
      exact ih e' (i + 1) m hT' h2 (by omega) (by omega) (by omega) hp'
    · exact br_f h1 (And.intro ini (br_f h2 (nm_r (nI_1 _) (ih d (i + 1) m hT' h3 (by omega) (by omega) (by omega) hp'))))
end
theorem i_vc_traceEnd {k : Nat} {u : SX} {v : SY} (I : i_Rel k u v) (hk : k + 5 ≤ 2563) (v1 : Int32) : wpX_traceEnd (fun r => wpY_traceEnd (fun r' => r' = r ∧ i_Rel (k + 5) u v) v v1) u v1 := by
  refine cp_el (P := fun u v => wpX_traceEnd (fun r => wpY_traceEnd (fun r' => r' = r ∧ i_Rel (k + 5) u v) v v1) u v1) ?_ I
  intro f_cells f_functions f_limit f_status f_freeCount f_first f_size f_heapSize f_depth f_cur f_inserted f_overflowed a_bodySizes a_opAt a_aAt a_bAt a_baseValue a_settledValue a_outputValue a_changedMark a_cellHead a_cellTail a_kindOf a_subjectOf a_valueOf a_labelOf a_nextOf a_ownerOf a_leaveOf a_pcOf a_snapshot a_cellPrev a_cellNext a_sourceOf a_alive a_queued a_free a_nodeAt a_indexOf a_heap a_frameEnter a_framePc a_frameZone a_frameWait a_frameRegs h_entries h_depth b_kinds b_subjects b_values b_store b_openFunction b_openArg b_openNext b_regs cN fN lN hF
  have hR : i_Rel (k + 5) (nI cN, nI fN, nI lN, f_status, f_freeCount, f_first, f_size, f_heapSize, f_depth, f_cur, f_inserted, f_overflowed, a_bodySizes, a_opAt, a_aAt, a_bAt, a_baseValue, a_settledValue, a_outputValue, a_changedMark, a_cellHead, a_cellTail, a_kindOf, a_subjectOf, a_valueOf, a_labelOf, a_nextOf, a_ownerOf, a_leaveOf, a_pcOf, a_snapshot, a_cellPrev, a_cellNext, a_sourceOf, a_alive, a_queued, a_free, a_nodeAt, a_indexOf, a_heap, a_frameEnter, a_framePc, a_frameZone, a_frameWait, a_frameRegs) (nI cN, nI fN, nI lN, f_status, h_entries, h_depth, a_opAt, a_aAt, a_bAt, a_bodySizes, a_baseValue, a_settledValue, a_outputValue, a_changedMark, b_kinds, b_subjects, b_values, b_store, b_openFunction, b_openArg, b_openNext, b_regs) := cp_in hF
  unfold wpX_traceEnd wpY_traceEnd
  rcases cp_q hF v1 with ⟨hx, hy⟩ | ⟨fc, g0, W, a, g, b, h1, hLX, he0, hT0, e, rfl, hj, hl, hx, hy⟩
  · exact hx _ (br_f (by decide) (hy _ (br_t rfl ⟨rfl, hR⟩)))
  · have hgm : g ∈ [g0] ++ W := by show g ∈ g0 :: W; rw [e]; exact List.mem_append.mpr (Or.inr List.mem_cons_self)
    have hgR := hLX.1.2.1 g hgm
    have hgi := hgR.1.1
    have hgo := hgR.2.2.1
    have gk0 : cp_k g0 = 0 := hLX.2.2.2.2.2.2.2.2.1
    have go0 : cp_o g0 = cp_id g0 := ((hLX.1.2.1 g0 List.mem_cons_self).2.2.2.2.2.1 gk0).2
    have hIx := hLX.2.2.2.1
    have hRp := hLX.2.2.2.2.2.2.2.2.2.2
    -- the LEAVE and its place
    have key : ∃ z q, z ∈ [g0] ++ W ∧ cp_k z = 3 ∧ cp_o z = cp_o g ∧ a_indexOf (cp_id z) = nI q ∧ ∀ post : Int32 → Prop, post (nI q) → (((b_kinds (nI a.length).toNatClampNeg) = 3 → post (nI a.length)) ∧ (¬ (b_kinds (nI a.length).toNatClampNeg) = 3 → ∀ x3_27 : Int32, x3_27 = nI a.length + 1 → ∃ n28 : Nat, wY_traceEnd_28 post (nI cN) (nI fN) (nI lN) f_status h_entries h_depth a_opAt a_aAt a_bAt a_bodySizes a_baseValue a_settledValue a_outputValue a_changedMark b_kinds b_subjects b_values b_store b_openFunction b_openArg b_openNext b_regs n28 0 x3_27)) := by
      rw [nI_clamp (n := a.length) (by omega)]
      have hT1 := hT0
      rw [e] at hT1
      have hT := cp_Tr_at hT1
      by_cases h3 : cp_k g = 3
      · have hIx' := hIx
        rw [e] at hIx'
        exact ⟨g, a.length, hgm, h3, rfl, (cp_Ix_at hIx').2.1, fun post hp => br_t (hT.1.trans h3) hp⟩
      · obtain ⟨c, z, d, eb, hB, zk, zo⟩ := cp_leave hRp gk0 go0 e h3
        have e2 : g0 :: W = (a ++ g :: c) ++ z :: d := by rw [e, eb]; simp
        have hIx' := hIx
        rw [e2] at hIx'
        have hzm : z ∈ [g0] ++ W := by show z ∈ g0 :: W; rw [e2]; exact List.mem_append.mpr (Or.inr List.mem_cons_self)
        have hla : (a ++ g :: c).length = a.length + 1 + c.length := by simp; omega
        have hlL : (g0 :: W).length = a.length + 1 + c.length + (d.length + 1) := by rw [e2, List.length_append, hla]; rfl
        refine ⟨z, a.length + 1 + c.length, hzm, zk, zo, by rw [← hla]; exact (cp_Ix_at hIx').2.1, fun post hp => br_f (fun h => h3 (hT.1.symm.trans h)) (nm_r (nI_1 _) ⟨c.length + 1, ?_⟩)⟩
        refine cp_yend (N := (g0 :: W).length) (z := z) (t := d) he0 hl zk c 0 (a.length + 1) (c.length + 1) ?_ hB (by omega) (by omega) (by omega) hp
        have := ((cp_Tr_app _ _ _).mp hT1).2
        rw [Nat.zero_add, eb] at this
        exact this.2.2.2
    obtain ⟨z, q, hzm, zk, zo, hix, hYp⟩ := key
    have hzR := hLX.1.2.1 z hzm
    have hzi := hzR.1.1
    have hlv := hzR.2.2.2.2.2.2.1 zk
    rw [zo] at hlv
    have eo : (nI (cp_o g)).toNatClampNeg = cp_o g := nI_clamp (by omega)
    have ino : vp_in (nI (cp_o g)) 256 := vp_in_nI hgo (by decide)
    refine hx _ (br_t (nI_pos' (by omega)) (And.intro (vp_in_nI hgi (by decide)) ?_))
    rw [nI_clamp (n := cp_id g) (by omega)]
    refine nm_r hgR.2.1 (br_f (nI_pos (by omega)) (And.intro ino ?_))
    rw [eo, hlv]
    refine br_t (nI_pos' (by omega)) (And.intro ino (And.intro (vp_in_nI hzi (by decide)) ?_))
    rw [nI_clamp (n := cp_id z) (by omega), hix]
    refine hy _ (br_f (by decide) (And.intro (vp_in_nI (by omega) (by decide)) ?_))
    exact hYp (fun r' => r' = nI q ∧ i_Rel (k + 5) (nI cN, nI fN, nI lN, f_status, f_freeCount, f_first, f_size, f_heapSize, f_depth, f_cur, f_inserted, f_overflowed, a_bodySizes, a_opAt, a_aAt, a_bAt, a_baseValue, a_settledValue, a_outputValue, a_changedMark, a_cellHead, a_cellTail, a_kindOf, a_subjectOf, a_valueOf, a_labelOf, a_nextOf, a_ownerOf, a_leaveOf, a_pcOf, a_snapshot, a_cellPrev, a_cellNext, a_sourceOf, a_alive, a_queued, a_free, a_nodeAt, a_indexOf, a_heap, a_frameEnter, a_framePc, a_frameZone, a_frameWait, a_frameRegs) (nI cN, nI fN, nI lN, f_status, h_entries, h_depth, a_opAt, a_aAt, a_bAt, a_bodySizes, a_baseValue, a_settledValue, a_outputValue, a_changedMark, b_kinds, b_subjects, b_values, b_store, b_openFunction, b_openArg, b_openNext, b_regs)) ⟨rfl, hR⟩
end
section
/-! ===== traceWriter, isStale, staleCount, edit ===== -/
/-- the index below n -/
def cp_m1 (n : Nat) : Int32 := nI n + (-1)
theorem cp_m1_0 : cp_m1 0 = -1 := by decide
theorem cp_m1_s (n : Nat) : cp_m1 (n + 1) = nI n := pk_m1 n
theorem cp_m1_sub (n : Nat) : nI n - 1 = cp_m1 n := by unfold cp_m1; exact Int32.sub_eq_add_neg _ _
/-- the index of the last write of cell c, as the component finds it -/
def cp_wx (ix : Nat → Int32) (w : Int32) : Int32 := if w < 0 then -1 else ix w.toNatClampNeg
section
variable {h_cells h_functions h_limit h_state h_entries h_depth : Int32} {b_codeOp b_codeA b_codeB b_bodyLength b_baseValue b_settledValue b_outputValue b_changedMark b_kinds b_subjects b_values b_store b_openFunction b_openArg b_openNext b_regs : Nat → Int32}
theorem cp_ywrite {post : Int32 → Prop} {ix na lab : Nat → Int32} {i c : Nat} (hi : i < 120) (hc : c < 2 ^ 31) (hsb : b_subjects i = nI c) :
    ∀ (n : Nat) (a : List cp_N) (m : Nat), a.length = n → n ≤ 120 → n < m → (∀ x ∈ a, cp_id x < 256 ∧ (cp_k x = 2 → cp_s x < 2 ^ 31)) → cp_Tr b_kinds b_subjects b_values 0 a → cp_Ix na ix lab 0 a →
      post (cp_wx ix (cp_lw (-1) (cp_fl c a))) → wY_traceWriter_26 post (nI i) h_cells h_functions h_limit h_state h_entries h_depth b_codeOp b_codeA b_codeB b_bodyLength b_baseValue b_settledValue b_outputValue b_changedMark b_kinds b_subjects b_values b_store b_openFunction b_openArg b_openNext b_regs m (cp_m1 n) := by
  intro n
  induction n with
  | zero =>
    intro a m ha hn hm hid hT hI hp
    obtain ⟨m, rfl⟩ : ∃ m', m = m' + 1 := ⟨m - 1, by omega⟩
    obtain rfl : a = [] := List.eq_nil_of_length_eq_zero ha
    rw [cp_m1_0]
    exact br_t cp_m1neg hp
  | succ n ih =>
    intro a m ha hn hm hid hT hI hp
    obtain ⟨m, rfl⟩ : ∃ m', m = m' + 1 := ⟨m - 1, by omega⟩
    rcases cp_nc a with rfl | ⟨a', h, rfl⟩
    · simp at ha
    · have ha' : a'.length = n := by simpa using ha
      have hh := hid h (List.mem_append.mpr (Or.inr List.mem_cons_self))
      have hTh := cp_Tr_at (b := []) hT
      have hIh := cp_Ix_at (b := []) hI
      rw [ha'] at hTh hIh
      have inn : vp_in (nI n) 120 := vp_in_nI (by omega) (by decide)
      have hT' := ((cp_Tr_app _ _ _).mp hT).1
      have hI' := ((cp_Ix_app _ _ _).mp hI).1
      have go : cp_fl c (a' ++ [h]) = cp_fl c a' ∨ (cp_k h ≠ 2 ∧ cp_fl c (a' ++ [h]) = cp_fl c a' ++ [h]) → wY_traceWriter_26 post (nI i) h_cells h_functions h_limit h_state h_entries h_depth b_codeOp b_codeA b_codeB b_bodyLength b_baseValue b_settledValue b_outputValue b_changedMark b_kinds b_subjects b_values b_store b_openFunction b_openArg b_openNext b_regs m (nI n + (-1)) := by
        intro hfl
        refine ih a' m ha' (by omega) (by omega) (fun x hx => hid x (List.mem_append.mpr (Or.inl hx))) hT' hI' ?_
        rcases hfl with hfl | ⟨k2, hfl⟩
        · rw [hfl] at hp; exact hp
        · rw [hfl, cp_lw_snoc, if_neg k2] at hp; exact hp
      rw [cp_m1_s]
      refine br_f (nI_pos (by omega)) (And.intro inn ?_)
      rw [nI_clamp (n := n) (by omega), hTh.1, hTh.2.1, nI_clamp (n := i) (by omega), hsb]
      refine br_c (fun k2 => And.intro inn (And.intro (vp_in_nI hi (by decide)) (br_c (fun es => ?_) (fun es => nm_e (go (Or.inl ?_)))))) (fun k2 => nm_e (go ?_))
      · have es' : cp_s h = c := (nI_eq (hh.2 k2) hc).mp es
        have hfl : cp_fl c (a' ++ [h]) = cp_fl c a' ++ [h] := by rw [cp_fl_app, cp_fl_y (cp_A_iff.mpr ⟨Or.inr k2, es'⟩)]; rfl
        rw [hfl, cp_lw_snoc, if_pos k2] at hp
        unfold cp_wx at hp
        rw [if_neg (nI_pos (by omega)), nI_clamp (n := cp_id h) (by omega), hIh.2.1] at hp
        exact hp
      · rw [cp_fl_app, cp_fl_n (cp_A_no (fun z => es (by rw [z.2])))]
        exact List.append_nil _
      · by_cases hA : cp_A c h = true
        · exact Or.inr ⟨k2, by rw [cp_fl_app, cp_fl_y hA]; rfl⟩
        · refine Or.inl ?_
          rw [cp_fl_app, cp_fl_n (by simpa using hA)]
          exact List.append_nil _
end
section
variable {f_cells f_functions f_limit f_status f_freeCount f_first f_size f_heapSize f_depth f_cur f_inserted f_overflowed : Int32} {a_bodySizes a_opAt a_aAt a_bAt a_baseValue a_settledValue a_outputValue a_changedMark a_cellHead a_cellTail a_kindOf a_subjectOf a_valueOf a_labelOf a_nextOf a_ownerOf a_leaveOf a_pcOf a_snapshot a_cellPrev a_cellNext a_sourceOf a_alive a_queued a_free a_nodeAt a_indexOf a_heap a_frameEnter a_framePc a_frameZone a_frameWait a_frameRegs : Nat → Int32}
variable {h_entries h_depth : Int32} {b_kinds b_subjects b_values b_store b_openFunction b_openArg b_openNext b_regs : Nat → Int32} {cN fN lN fc : Nat} {g0 g : cp_N} {W a b : List cp_N}
/-- the reference's answer on a read -/
theorem cp_ywr {post : Int32 → Prop} (hLX : cp_LX cN fN lN fc g0 W (nI cN) (nI fN) (nI lN) f_status f_freeCount f_first f_size f_heapSize f_depth f_cur f_inserted f_overflowed a_bodySizes a_opAt a_aAt a_bAt a_baseValue a_settledValue a_outputValue a_changedMark a_cellHead a_cellTail a_kindOf a_subjectOf a_valueOf a_labelOf a_nextOf a_ownerOf a_leaveOf a_pcOf a_snapshot a_cellPrev a_cellNext a_sourceOf a_alive a_queued a_free a_nodeAt a_indexOf a_heap a_frameEnter a_framePc a_frameZone a_frameWait a_frameRegs) (hT0 : cp_Tr b_kinds b_subjects b_values 0 (g0 :: W)) (e : g0 :: W = a ++ g :: b) (hj : a.length < (g0 :: W).length) (hl : (g0 :: W).length ≤ 120) (hy : ∀ post : Int32 → Prop, post 1 → wpY_inRange post (nI cN, nI fN, nI lN, f_status, h_entries, h_depth, a_opAt, a_aAt, a_bAt, a_bodySizes, a_baseValue, a_settledValue, a_outputValue, a_changedMark, b_kinds, b_subjects, b_values, b_store, b_openFunction, b_openArg, b_openNext, b_regs) (nI a.length)) (hk : cp_k g = 1)
    (K : post (cp_wx a_indexOf (a_sourceOf (cp_id g)))) : wpY_traceWriter post (nI cN, nI fN, nI lN, f_status, h_entries, h_depth, a_opAt, a_aAt, a_bAt, a_bodySizes, a_baseValue, a_settledValue, a_outputValue, a_changedMark, b_kinds, b_subjects, b_values, b_store, b_openFunction, b_openArg, b_openNext, b_regs) (nI a.length) := by
  unfold wpY_traceWriter
  have hR := hLX.1.2.1
  have hc16 := hLX.1.1.2.2.1
  have hgm : g ∈ g0 :: W := by rw [e]; exact List.mem_append.mpr (Or.inr List.mem_cons_self)
  have hgR := hR g hgm
  have hs := hgR.1.2.2.2.2 (Or.inl hk)
  have hDS := hLX.2.2.2.2.2.2.1 (cp_s g) hs
  have hSo := hDS.2
  rw [e, cp_fl_app, cp_fl_y (cp_A_iff.mpr ⟨Or.inl hk, rfl⟩)] at hSo
  have hsrc := cp_So_at hSo
  rw [hsrc] at K
  have hT1 := hT0
  rw [e] at hT1
  have hT := cp_Tr_at hT1
  have hIx := hLX.2.2.2.1
  rw [e] at hIx
  have hma : ∀ x ∈ a, x ∈ g0 :: W := fun x hx => by rw [e]; exact List.mem_append.mpr (Or.inl hx)
  refine hy _ (br_f (by decide) (And.intro (vp_in_nI (by omega) (by decide)) ?_))
  rw [nI_clamp (n := a.length) (by omega), hT.1]
  refine br_t hk (nm_r (cp_m1_sub a.length) ⟨a.length + 1, ?_⟩)
  refine cp_ywrite (na := a_nodeAt) (lab := a_labelOf) (ix := a_indexOf) (c := cp_s g) (by omega) (by omega) hT.2.1 a.length a (a.length + 1) rfl (by omega) (by omega) (fun x hx => ⟨(hR x (hma x hx)).1.1, fun k2 => ?_⟩) ((cp_Tr_app _ _ _).mp hT1).1 ((cp_Ix_app _ _ _).mp hIx).1 K
  have := (hR x (hma x hx)).1.2.2.2.2 (Or.inr k2)
  omega
/-- the source of a read: none, or a node of the trace -/
theorem cp_src (hLX : cp_LX cN fN lN fc g0 W (nI cN) (nI fN) (nI lN) f_status f_freeCount f_first f_size f_heapSize f_depth f_cur f_inserted f_overflowed a_bodySizes a_opAt a_aAt a_bAt a_baseValue a_settledValue a_outputValue a_changedMark a_cellHead a_cellTail a_kindOf a_subjectOf a_valueOf a_labelOf a_nextOf a_ownerOf a_leaveOf a_pcOf a_snapshot a_cellPrev a_cellNext a_sourceOf a_alive a_queued a_free a_nodeAt a_indexOf a_heap a_frameEnter a_framePc a_frameZone a_frameWait a_frameRegs) (e : g0 :: W = a ++ g :: b) (hl : (g0 :: W).length ≤ 120) (hk : cp_k g = 1) : (a_sourceOf (cp_id g) = -1 ∧ cp_lw (-1) (cp_fl (cp_s g) a) = -1) ∨ (∃ w q, w < 256 ∧ a_sourceOf (cp_id g) = nI w ∧ a_indexOf w = nI q ∧ q < 120 ∧ ¬ cp_lw (-1) (cp_fl (cp_s g) a) = -1) := by
  have hR := hLX.1.2.1
  have hgm : g ∈ g0 :: W := by rw [e]; exact List.mem_append.mpr (Or.inr List.mem_cons_self)
  have hs := (hR g hgm).1.2.2.2.2 (Or.inl hk)
  have hSo := (hLX.2.2.2.2.2.2.1 (cp_s g) hs).2
  rw [e, cp_fl_app, cp_fl_y (cp_A_iff.mpr ⟨Or.inl hk, rfl⟩)] at hSo
  have hsrc := cp_So_at hSo
  have lwm : ∀ (l : List cp_N) (d : Int32), cp_lw d l = d ∨ ∃ x ∈ l, cp_lw d l = nI (cp_id x) := by
    intro l
    induction l with
    | nil => intro d; exact Or.inl rfl
    | cons y t ih =>
      intro d
      show cp_lw (if cp_k y = 2 then nI (cp_id y) else d) t = d ∨ ∃ x ∈ y :: t, cp_lw (if cp_k y = 2 then nI (cp_id y) else d) t = nI (cp_id x)
      rcases ih (if cp_k y = 2 then nI (cp_id y) else d) with h | ⟨x, hx, h⟩
      · rw [h]
        by_cases k2 : cp_k y = 2
        · rw [if_pos k2]; exact Or.inr ⟨y, List.mem_cons_self, rfl⟩
        · rw [if_neg k2]; exact Or.inl rfl
      · exact Or.inr ⟨x, List.mem_cons_of_mem _ hx, h⟩
  rcases lwm (cp_fl (cp_s g) a) (-1) with h | ⟨x, hx, h⟩
  · exact Or.inl ⟨hsrc.trans h, h⟩
  · have hxm : x ∈ g0 :: W := by rw [e]; exact List.mem_append.mpr (Or.inl (cp_fl_mem hx).1)
    have hxi := (hR x hxm).1.1
    obtain ⟨P, Q, eP⟩ := List.append_of_mem hxm
    have hIx := hLX.2.2.2.1
    have hlP : P.length < 120 := by rw [eP, List.length_append] at hl; have : (x :: Q).length = Q.length + 1 := rfl; omega
    rw [eP] at hIx
    refine Or.inr ⟨cp_id x, P.length, hxi, hsrc.trans h, (cp_Ix_at hIx).2.1, hlP, fun h2 => ?_⟩
    rw [h] at h2
    have h3 : ¬ nI (cp_id x) < 0 := nI_pos (by omega)
    rw [h2] at h3
    exact h3 cp_m1neg
end
theorem i_vc_traceWriter {k : Nat} {u : SX} {v : SY} (I : i_Rel k u v) (hk : k + 5 ≤ 2563) (v1 : Int32) : wpX_traceWriter (fun r => wpY_traceWriter (fun r' => r' = r ∧ i_Rel (k + 5) u v) v v1) u v1 := by
  refine cp_el (P := fun u v => wpX_traceWriter (fun r => wpY_traceWriter (fun r' => r' = r ∧ i_Rel (k + 5) u v) v v1) u v1) ?_ I
  intro f_cells f_functions f_limit f_status f_freeCount f_first f_size f_heapSize f_depth f_cur f_inserted f_overflowed a_bodySizes a_opAt a_aAt a_bAt a_baseValue a_settledValue a_outputValue a_changedMark a_cellHead a_cellTail a_kindOf a_subjectOf a_valueOf a_labelOf a_nextOf a_ownerOf a_leaveOf a_pcOf a_snapshot a_cellPrev a_cellNext a_sourceOf a_alive a_queued a_free a_nodeAt a_indexOf a_heap a_frameEnter a_framePc a_frameZone a_frameWait a_frameRegs h_entries h_depth b_kinds b_subjects b_values b_store b_openFunction b_openArg b_openNext b_regs cN fN lN hF
  have hR : i_Rel (k + 5) (nI cN, nI fN, nI lN, f_status, f_freeCount, f_first, f_size, f_heapSize, f_depth, f_cur, f_inserted, f_overflowed, a_bodySizes, a_opAt, a_aAt, a_bAt, a_baseValue, a_settledValue, a_outputValue, a_changedMark, a_cellHead, a_cellTail, a_kindOf, a_subjectOf, a_valueOf, a_labelOf, a_nextOf, a_ownerOf, a_leaveOf, a_pcOf, a_snapshot, a_cellPrev, a_cellNext, a_sourceOf, a_alive, a_queued, a_free, a_nodeAt, a_indexOf, a_heap, a_frameEnter, a_framePc, a_frameZone, a_frameWait, a_frameRegs) (nI cN, nI fN, nI lN, f_status, h_entries, h_depth, a_opAt, a_aAt, a_bAt, a_bodySizes, a_baseValue, a_settledValue, a_outputValue, a_changedMark, b_kinds, b_subjects, b_values, b_store, b_openFunction, b_openArg, b_openNext, b_regs) := cp_in hF
  unfold wpX_traceWriter
  rcases cp_q hF v1 with ⟨hx, hy⟩ | ⟨fc, g0, W, a, g, b, h1, hLX, he0, hT0, e, rfl, hj, hl, hx, hy⟩
  · refine hx _ (br_t cp_m1neg ?_)
    unfold wpY_traceWriter
    exact hy _ (br_t rfl ⟨rfl, hR⟩)
  · have hgm : g ∈ [g0] ++ W := by show g ∈ g0 :: W; rw [e]; exact List.mem_append.mpr (Or.inr List.mem_cons_self)
    have hgR := hLX.1.2.1 g hgm
    have hgi := hgR.1.1
    have ing : vp_in (nI (cp_id g)) 256 := vp_in_nI hgi (by decide)
    refine hx _ (br_f (nI_pos (by omega)) (And.intro ing ?_))
    rw [nI_clamp (n := cp_id g) (by omega), hgR.1.2.1]
    by_cases hk1 : cp_k g = 1
    · have hYw := cp_ywr (post := fun r' => r' = cp_wx a_indexOf (a_sourceOf (cp_id g)) ∧ i_Rel (k + 5) (nI cN, nI fN, nI lN, f_status, f_freeCount, f_first, f_size, f_heapSize, f_depth, f_cur, f_inserted, f_overflowed, a_bodySizes, a_opAt, a_aAt, a_bAt, a_baseValue, a_settledValue, a_outputValue, a_changedMark, a_cellHead, a_cellTail, a_kindOf, a_subjectOf, a_valueOf, a_labelOf, a_nextOf, a_ownerOf, a_leaveOf, a_pcOf, a_snapshot, a_cellPrev, a_cellNext, a_sourceOf, a_alive, a_queued, a_free, a_nodeAt, a_indexOf, a_heap, a_frameEnter, a_framePc, a_frameZone, a_frameWait, a_frameRegs) (nI cN, nI fN, nI lN, f_status, h_entries, h_depth, a_opAt, a_aAt, a_bAt, a_bodySizes, a_baseValue, a_settledValue, a_outputValue, a_changedMark, b_kinds, b_subjects, b_values, b_store, b_openFunction, b_openArg, b_openNext, b_regs)) (h_entries := h_entries) (h_depth := h_depth) (b_store := b_store) (b_openFunction := b_openFunction) (b_openArg := b_openArg) (b_openNext := b_openNext) (b_regs := b_regs) hLX hT0 e hj hl hy hk1 ⟨rfl, hR⟩
      refine br_t hk1 (And.intro ing ?_)
      rcases cp_src hLX e hl hk1 with ⟨hs, _⟩ | ⟨w, q, hw, hs, hq, _⟩
      · rw [hs] at hYw ⊢
        exact nm_e (br_f (by decide) hYw)
      · rw [hs] at hYw ⊢
        unfold cp_wx at hYw
        rw [if_neg (nI_pos (by omega))] at hYw
        exact nm_e (br_t (nI_pos' (by omega)) (And.intro (vp_in_nI hw (by decide)) hYw))
    · refine br_f hk1 ?_
      have hT1 := hT0
      rw [e] at hT1
      have hT := cp_Tr_at hT1
      unfold wpY_traceWriter
      refine hy _ (br_f (by decide) (And.intro (vp_in_nI (by omega) (by decide)) ?_))
      rw [nI_clamp (n := a.length) (by omega), hT.1]
      exact br_f hk1 ⟨rfl, hR⟩
/-- the answer of isStale, for both -/
def cp_sl (base : Nat → Int32) (a : List cp_N) (g : cp_N) : Int32 := if cp_k g = 1 ∧ cp_lw (-1) (cp_fl (cp_s g) a) = -1 ∧ ¬ cp_v g = base (cp_s g) then 1 else 0
section
variable {f_cells f_functions f_limit f_status f_freeCount f_first f_size f_heapSize f_depth f_cur f_inserted f_overflowed : Int32} {a_bodySizes a_opAt a_aAt a_bAt a_baseValue a_settledValue a_outputValue a_changedMark a_cellHead a_cellTail a_kindOf a_subjectOf a_valueOf a_labelOf a_nextOf a_ownerOf a_leaveOf a_pcOf a_snapshot a_cellPrev a_cellNext a_sourceOf a_alive a_queued a_free a_nodeAt a_indexOf a_heap a_frameEnter a_framePc a_frameZone a_frameWait a_frameRegs : Nat → Int32}
variable {h_entries h_depth : Int32} {b_kinds b_subjects b_values b_store b_openFunction b_openArg b_openNext b_regs : Nat → Int32} {cN fN lN fc : Nat} {g0 g : cp_N} {W a b : List cp_N}
theorem cp_ystale {post : Int32 → Prop} (hLX : cp_LX cN fN lN fc g0 W (nI cN) (nI fN) (nI lN) f_status f_freeCount f_first f_size f_heapSize f_depth f_cur f_inserted f_overflowed a_bodySizes a_opAt a_aAt a_bAt a_baseValue a_settledValue a_outputValue a_changedMark a_cellHead a_cellTail a_kindOf a_subjectOf a_valueOf a_labelOf a_nextOf a_ownerOf a_leaveOf a_pcOf a_snapshot a_cellPrev a_cellNext a_sourceOf a_alive a_queued a_free a_nodeAt a_indexOf a_heap a_frameEnter a_framePc a_frameZone a_frameWait a_frameRegs) (hT0 : cp_Tr b_kinds b_subjects b_values 0 (g0 :: W)) (e : g0 :: W = a ++ g :: b) (hj : a.length < (g0 :: W).length) (hl : (g0 :: W).length ≤ 120) (hy : ∀ post : Int32 → Prop, post 1 → wpY_inRange post (nI cN, nI fN, nI lN, f_status, h_entries, h_depth, a_opAt, a_aAt, a_bAt, a_bodySizes, a_baseValue, a_settledValue, a_outputValue, a_changedMark, b_kinds, b_subjects, b_values, b_store, b_openFunction, b_openArg, b_openNext, b_regs) (nI a.length))
    (K : post (cp_sl a_baseValue a g)) : wpY_isStale post (nI cN, nI fN, nI lN, f_status, h_entries, h_depth, a_opAt, a_aAt, a_bAt, a_bodySizes, a_baseValue, a_settledValue, a_outputValue, a_changedMark, b_kinds, b_subjects, b_values, b_store, b_openFunction, b_openArg, b_openNext, b_regs) (nI a.length) := by
  unfold wpY_isStale
  have hgm : g ∈ g0 :: W := by rw [e]; exact List.mem_append.mpr (Or.inr List.mem_cons_self)
  have hgR := hLX.1.2.1 g hgm
  have hT1 := hT0
  rw [e] at hT1
  have hT := cp_Tr_at hT1
  have ina : vp_in (nI a.length) 120 := vp_in_nI (by omega) (by decide)
  have ea : (nI a.length).toNatClampNeg = a.length := nI_clamp (by omega)
  unfold cp_sl at K
  refine hy _ (br_f (by decide) (And.intro ina ?_))
  rw [ea, hT.1]
  by_cases hk : cp_k g = 1
  · have hs := hgR.1.2.2.2.2 (Or.inl hk)
    refine br_t hk ?_
    refine cp_ywr hLX hT0 e hj hl hy hk ?_
    rcases cp_src hLX e hl hk with ⟨hsr, hlw⟩ | ⟨w, q, hw, hsr, hq, hq2, hlw⟩
    · have hwx : cp_wx a_indexOf (a_sourceOf (cp_id g)) = -1 := by rw [hsr]; exact if_pos cp_m1neg
      rw [hwx]
      refine br_t rfl (And.intro ina (And.intro ina ?_))
      rw [hT.2.1, hT.2.2, nI_clamp (n := cp_s g) (by omega)]
      refine And.intro (vp_in_nI hs (by decide)) (br_c (fun hv => ?_) (fun hv => ?_))
      · rw [if_neg (fun h => h.2.2 hv)] at K; exact K
      · rw [if_pos ⟨hk, hlw, hv⟩] at K; exact K
    · have hwx : cp_wx a_indexOf (a_sourceOf (cp_id g)) = nI q := by
        rw [hsr]; unfold cp_wx
        rw [if_neg (nI_pos (by omega)), nI_clamp (n := w) (by omega), hq]
      rw [hwx]
      refine br_f (fun h => ?_) ?_
      · have h3 : ¬ nI q < 0 := nI_pos (by omega)
        rw [h] at h3
        exact h3 cp_m1neg
      · rw [if_neg (fun h => hlw h.2.1)] at K; exact K
  · refine br_f hk ?_
    rw [if_neg (fun h => hk h.1)] at K; exact K
end
theorem i_vc_isStale {k : Nat} {u : SX} {v : SY} (I : i_Rel k u v) (hk : k + 5 ≤ 2563) (v1 : Int32) : wpX_isStale (fun r => wpY_isStale (fun r' => r' = r ∧ i_Rel (k + 5) u v) v v1) u v1 := by
  refine cp_el (P := fun u v => wpX_isStale (fun r => wpY_isStale (fun r' => r' = r ∧ i_Rel (k + 5) u v) v v1) u v1) ?_ I
  intro f_cells f_functions f_limit f_status f_freeCount f_first f_size f_heapSize f_depth f_cur f_inserted f_overflowed a_bodySizes a_opAt a_aAt a_bAt a_baseValue a_settledValue a_outputValue a_changedMark a_cellHead a_cellTail a_kindOf a_subjectOf a_valueOf a_labelOf a_nextOf a_ownerOf a_leaveOf a_pcOf a_snapshot a_cellPrev a_cellNext a_sourceOf a_alive a_queued a_free a_nodeAt a_indexOf a_heap a_frameEnter a_framePc a_frameZone a_frameWait a_frameRegs h_entries h_depth b_kinds b_subjects b_values b_store b_openFunction b_openArg b_openNext b_regs cN fN lN hF
  have hR : i_Rel (k + 5) (nI cN, nI fN, nI lN, f_status, f_freeCount, f_first, f_size, f_heapSize, f_depth, f_cur, f_inserted, f_overflowed, a_bodySizes, a_opAt, a_aAt, a_bAt, a_baseValue, a_settledValue, a_outputValue, a_changedMark, a_cellHead, a_cellTail, a_kindOf, a_subjectOf, a_valueOf, a_labelOf, a_nextOf, a_ownerOf, a_leaveOf, a_pcOf, a_snapshot, a_cellPrev, a_cellNext, a_sourceOf, a_alive, a_queued, a_free, a_nodeAt, a_indexOf, a_heap, a_frameEnter, a_framePc, a_frameZone, a_frameWait, a_frameRegs) (nI cN, nI fN, nI lN, f_status, h_entries, h_depth, a_opAt, a_aAt, a_bAt, a_bodySizes, a_baseValue, a_settledValue, a_outputValue, a_changedMark, b_kinds, b_subjects, b_values, b_store, b_openFunction, b_openArg, b_openNext, b_regs) := cp_in hF
  unfold wpX_isStale
  rcases cp_q hF v1 with ⟨hx, hy⟩ | ⟨fc, g0, W, a, g, b, h1, hLX, he0, hT0, e, rfl, hj, hl, hx, hy⟩
  · refine hx _ (br_t cp_m1neg ?_)
    unfold wpY_isStale
    exact hy _ (br_t rfl ⟨rfl, hR⟩)
  · have hgm : g ∈ [g0] ++ W := by show g ∈ g0 :: W; rw [e]; exact List.mem_append.mpr (Or.inr List.mem_cons_self)
    have hgR := hLX.1.2.1 g hgm
    have hgi := hgR.1.1
    have ing : vp_in (nI (cp_id g)) 256 := vp_in_nI hgi (by decide)
    have hY : ∀ r : Int32, cp_sl a_baseValue a g = r → wpY_isStale (fun r' => r' = r ∧ i_Rel (k + 5) (nI cN, nI fN, nI lN, f_status, f_freeCount, f_first, f_size, f_heapSize, f_depth, f_cur, f_inserted, f_overflowed, a_bodySizes, a_opAt, a_aAt, a_bAt, a_baseValue, a_settledValue, a_outputValue, a_changedMark, a_cellHead, a_cellTail, a_kindOf, a_subjectOf, a_valueOf, a_labelOf, a_nextOf, a_ownerOf, a_leaveOf, a_pcOf, a_snapshot, a_cellPrev, a_cellNext, a_sourceOf, a_alive, a_queued, a_free, a_nodeAt, a_indexOf, a_heap, a_frameEnter, a_framePc, a_frameZone, a_frameWait, a_frameRegs) (nI cN, nI fN, nI lN, f_status, h_entries, h_depth, a_opAt, a_aAt, a_bAt, a_bodySizes, a_baseValue, a_settledValue, a_outputValue, a_changedMark, b_kinds, b_subjects, b_values, b_store, b_openFunction, b_openArg, b_openNext, b_regs)) (nI cN, nI fN, nI lN, f_status, h_entries, h_depth, a_opAt, a_aAt, a_bAt, a_bodySizes, a_baseValue, a_settledValue, a_outputValue, a_changedMark, b_kinds, b_subjects, b_values, b_store, b_openFunction, b_openArg, b_openNext, b_regs) (nI a.length) := fun r er => cp_ystale hLX hT0 e hj hl hy ⟨er, hR⟩
    unfold cp_sl at hY
    refine hx _ (br_f (nI_pos (by omega)) (And.intro ing ?_))
    rw [nI_clamp (n := cp_id g) (by omega), hgR.1.2.1, hgR.1.2.2.1, hgR.1.2.2.2.1]
    by_cases hk1 : cp_k g = 1
    · have hs := hgR.1.2.2.2.2 (Or.inl hk1)
      refine br_t hk1 (And.intro ing ?_)
      rw [nI_clamp (n := cp_s g) (by omega)]
      rcases cp_src hLX e hl hk1 with ⟨hsr, hlw⟩ | ⟨w, q, hw, hsr, hq, hq2, hlw⟩
      · rw [hsr]
        refine br_t cp_m1neg (And.intro ing (And.intro ing (And.intro (vp_in_nI hs (by decide)) (br_c (fun hv => ?_) (fun hv => ?_)))))
        · exact hY 0 (if_neg (fun h => h.2.2 hv))
        · exact hY 1 (if_pos ⟨hk1, hlw, hv⟩)
      · rw [hsr]
        exact br_f (nI_pos (by omega)) (hY 0 (if_neg (fun h => hlw h.2.1)))
    · exact br_f hk1 (hY 0 (if_neg (fun h => hk1 h.1)))
end
section
/-! ===== staleCount and edit ===== -/
/-- stale reads of one cell before its first write -/
def cp_s1 (b : Int32) : List cp_N → Nat
  | [] => 0
  | g :: t => if cp_k g = 2 then 0 else (if cp_v g = b then 0 else 1) + cp_s1 b t
theorem cp_lw_pos : ∀ (l : List cp_N) (w : Int32), (∀ g ∈ l, cp_id g < 256) → 0 ≤ w → 0 ≤ cp_lw w l
  | [], _, _, h => h
  | x :: t, w, hi, h => by
    show 0 ≤ cp_lw (if cp_k x = 2 then nI (cp_id x) else w) t
    refine cp_lw_pos t _ (fun y hy => hi y (List.mem_cons_of_mem _ hy)) ?_
    split
    · exact nI_pos' (by have := hi x List.mem_cons_self; omega)
    · exact h
theorem cp_s1_snoc {b : Int32} {x : cp_N} : ∀ (l : List cp_N), (∀ g ∈ l, cp_id g < 256) → cp_s1 b (l ++ [x]) = cp_s1 b l + (if cp_lw (-1) l = -1 ∧ ¬ cp_k x = 2 ∧ ¬ cp_v x = b then 1 else 0)
  | [], _ => by
    show (if cp_k x = 2 then 0 else (if cp_v x = b then 0 else 1) + 0) = 0 + _
    by_cases h2 : cp_k x = 2
    · rw [if_pos h2, if_neg (fun h => h.2.1 h2)]
    · rw [if_neg h2]
      by_cases hv : cp_v x = b
      · rw [if_pos hv, if_neg (fun h => h.2.2 hv)]
      · rw [if_neg hv, if_pos ⟨rfl, h2, hv⟩]
  | g :: t, hi => by
    have ih := cp_s1_snoc (b := b) (x := x) t (fun y hy => hi y (List.mem_cons_of_mem _ hy))
    have s1 : cp_s1 b (g :: t) = if cp_k g = 2 then 0 else (if cp_v g = b then 0 else 1) + cp_s1 b t := rfl
    have s2 : cp_s1 b (g :: t ++ [x]) = if cp_k g = 2 then 0 else (if cp_v g = b then 0 else 1) + cp_s1 b (t ++ [x]) := rfl
    have s3 : cp_lw (-1) (g :: t) = cp_lw (if cp_k g = 2 then nI (cp_id g) else -1) t := rfl
    by_cases h2 : cp_k g = 2
    · rw [if_pos h2] at s1 s2 s3
      have hp := cp_lw_pos t (nI (cp_id g)) (fun y hy => hi y (List.mem_cons_of_mem _ hy)) (nI_pos' (by have := hi g List.mem_cons_self; omega))
      rw [s1, s2, if_neg (fun h => by rw [s3.symm.trans h.1] at hp; exact absurd hp (by decide))]
    · rw [if_neg h2] at s1 s2 s3
      rw [s1, s2, s3, ih]; omega
def cp_sx (base : Nat → Int32) (L : List cp_N) : Nat → Nat
  | 0 => 0
  | n + 1 => cp_sx base L n + cp_s1 (base n) (cp_fl n L)
theorem cp_sx_nil (base : Nat → Int32) : ∀ n, cp_sx base [] n = 0
  | 0 => rfl
  | n + 1 => by show cp_sx base [] n + 0 = 0; rw [cp_sx_nil base n]
theorem cp_sl_01 (base : Nat → Int32) (a : List cp_N) (g : cp_N) : cp_sl base a g = 0 ∨ cp_sl base a g = 1 := by
  unfold cp_sl
  split
  · exact Or.inr rfl
  · exact Or.inl rfl
theorem cp_sx_snoc {base : Nat → Int32} {a : List cp_N} {g : cp_N} (hi : ∀ x ∈ a, cp_id x < 256) : ∀ n, cp_sx base (a ++ [g]) n = cp_sx base a n + (if cp_s g < n ∧ ¬ cp_sl base a g = 0 then 1 else 0)
  | 0 => by
    rw [if_neg (fun h => absurd h.1 (Nat.not_lt_zero _))]; rfl
  | n + 1 => by
    have ih := cp_sx_snoc (base := base) (g := g) hi n
    show cp_sx base (a ++ [g]) n + cp_s1 (base n) (cp_fl n (a ++ [g])) = cp_sx base a n + cp_s1 (base n) (cp_fl n a) + _
    rw [ih]
    by_cases hA : cp_A n g = true
    · have hA' := cp_A_iff.mp hA
      have hfl : cp_fl n (a ++ [g]) = cp_fl n a ++ [g] := by rw [cp_fl_app, cp_fl_y hA]; rfl
      rw [hfl, cp_s1_snoc _ (fun x hx => hi x (cp_fl_mem hx).1), if_neg (fun h => by omega)]
      by_cases hc : cp_lw (-1) (cp_fl n a) = -1 ∧ ¬ cp_k g = 2 ∧ ¬ cp_v g = base n
      · have hk1 : cp_k g = 1 := hA'.1.resolve_right hc.2.1
        have hs1 : cp_sl base a g = 1 := if_pos ⟨hk1, by rw [hA'.2]; exact hc.1, by rw [hA'.2]; exact hc.2.2⟩
        rw [if_pos hc, if_pos ⟨by omega, by rw [hs1]; decide⟩]; omega
      · have hs0 : cp_sl base a g = 0 := if_neg (fun h => hc ⟨by have := h.2.1; rw [hA'.2] at this; exact this, by rw [h.1]; decide, by have := h.2.2; rw [hA'.2] at this; exact this⟩)
        rw [if_neg hc, if_neg (fun h => h.2 hs0)]; omega
    · have hA0 : cp_A n g = false := by simpa using hA
      have hfl : cp_fl n (a ++ [g]) = cp_fl n a := by rw [cp_fl_app, cp_fl_n hA0]; exact List.append_nil _
      rw [hfl]
      by_cases hs0 : cp_sl base a g = 0
      · rw [if_neg (fun h => h.2 hs0), if_neg (fun h => h.2 hs0)]; omega
      · have hk1 : cp_k g = 1 := by
          by_cases hk : cp_k g = 1
          · exact hk
          · exact absurd (if_neg (fun h => hk h.1)) hs0
        have hne : cp_s g ≠ n := fun h => hA (cp_A_iff.mpr ⟨Or.inl hk1, h⟩)
        by_cases hlt : cp_s g < n
        · rw [if_pos ⟨hlt, hs0⟩, if_pos ⟨by omega, hs0⟩]; omega
        · rw [if_neg (fun h => hlt h.1), if_neg (fun h => by omega)]; omega
def cp_sy (base : Nat → Int32) : List cp_N → List cp_N → Nat
  | _, [] => 0
  | a, g :: t => (if cp_sl base a g = 0 then 0 else 1) + cp_sy base (a ++ [g]) t
theorem cp_sxy {base : Nat → Int32} {cN : Nat} : ∀ (t a : List cp_N), (∀ x ∈ a ++ t, cp_id x < 256 ∧ (cp_k x = 1 → cp_s x < cN)) → cp_sx base (a ++ t) cN = cp_sx base a cN + cp_sy base a t
  | [], a, _ => by rw [List.append_nil]; rfl
  | g :: t, a, h => by
    have e : a ++ g :: t = (a ++ [g]) ++ t := by simp
    have ih := cp_sxy (base := base) (cN := cN) t (a ++ [g]) (by rw [← e]; exact h)
    have hs := cp_sx_snoc (base := base) (a := a) (g := g) (fun x hx => (h x (List.mem_append.mpr (Or.inl hx))).1) cN
    have hg := h g (List.mem_append.mpr (Or.inr List.mem_cons_self))
    rw [e, ih, hs]
    show _ = cp_sx base a cN + ((if cp_sl base a g = 0 then 0 else 1) + cp_sy base (a ++ [g]) t)
    by_cases hs0 : cp_sl base a g = 0
    · rw [if_neg (fun h => h.2 hs0), if_pos hs0]; omega
    · have hk1 : cp_k g = 1 := by
        by_cases hk : cp_k g = 1
        · exact hk
        · exact absurd (if_neg (fun h => hk h.1)) hs0
      rw [if_pos ⟨hg.2 hk1, hs0⟩, if_neg hs0]; omega
theorem cp_sy_le {base : Nat → Int32} : ∀ (t a : List cp_N), cp_sy base a t ≤ t.length
  | [], _ => Nat.le_refl _
  | g :: t, a => by
    have := cp_sy_le (base := base) t (a ++ [g])
    show (if cp_sl base a g = 0 then 0 else 1) + cp_sy base (a ++ [g]) t ≤ t.length + 1
    split <;> omega
section
variable {f_cells f_functions f_limit f_status f_freeCount f_first f_size f_heapSize f_depth f_cur f_inserted f_overflowed : Int32} {a_bodySizes a_opAt a_aAt a_bAt a_baseValue a_settledValue a_outputValue a_changedMark a_cellHead a_cellTail a_kindOf a_subjectOf a_valueOf a_labelOf a_nextOf a_ownerOf a_leaveOf a_pcOf a_snapshot a_cellPrev a_cellNext a_sourceOf a_alive a_queued a_free a_nodeAt a_indexOf a_heap a_frameEnter a_framePc a_frameZone a_frameWait a_frameRegs : Nat → Int32}
theorem cp_xs32 {post : Int32 → Prop} {J : Int32 → Int32 → Prop} {c : Nat} (hc : c < 16) :
    ∀ (l : List cp_N) (m cnt hops : Nat) (pr : Int32), l.length + 1 < m → l.length + hops ≤ 255 → cp_G a_cellPrev a_cellNext pr l (-1) → (∀ g ∈ l, cp_R0 a_kindOf a_subjectOf a_valueOf g) → J (nI (cnt + cp_s1 (a_baseValue c) l)) (nI (c + 1)) →
      wX_staleCount_32 post J (nI c) f_cells f_functions f_limit f_status f_freeCount f_first f_size f_heapSize f_depth f_cur f_inserted f_overflowed a_bodySizes a_opAt a_aAt a_bAt a_baseValue a_settledValue a_outputValue a_changedMark a_cellHead a_cellTail a_kindOf a_subjectOf a_valueOf a_labelOf a_nextOf a_ownerOf a_leaveOf a_pcOf a_snapshot a_cellPrev a_cellNext a_sourceOf a_alive a_queued a_free a_nodeAt a_indexOf a_heap a_frameEnter a_framePc a_frameZone a_frameWait a_frameRegs m (nI cnt) (cp_hx l (-1)) (nI hops) := by
  intro l
  induction l with
  | nil =>
    intro m cnt hops pr hm hh hG hR hJ
    obtain ⟨m, rfl⟩ : ∃ m', m = m' + 1 := ⟨m - 1, by omega⟩
    have h0 : ([] : List cp_N).length = 0 := rfl
    exact br_f (nI_ge (b := 256) (by omega) (by decide)) (br_t cp_m1neg (nm_r (nI_1 _) hJ))
  | cons g t ih =>
    intro m cnt hops pr hm hh hG hR hJ
    have hlen : (g :: t).length = t.length + 1 := rfl
    obtain ⟨m, rfl⟩ : ∃ m', m = m' + 1 + 1 := ⟨m - 2, by omega⟩
    obtain ⟨hid, hk, hsb, hvl, _⟩ := hR g List.mem_cons_self
    have ein : vp_in (nI (cp_id g)) 256 := vp_in_nI hid (by decide)
    have hs : cp_s1 (a_baseValue c) (g :: t) = if cp_k g = 2 then 0 else (if cp_v g = a_baseValue c then 0 else 1) + cp_s1 (a_baseValue c) t := rfl
    rw [show cp_hx (g :: t) (-1) = nI (cp_id g) from rfl]
    refine br_f (nI_ge (b := 256) (by omega) (by decide)) (br_f (nI_pos (by omega)) (And.intro ein ?_))
    rw [nI_clamp (n := cp_id g) (by omega), hk, hvl, nI_clamp (n := c) (by omega)]
    refine br_c (fun k2 => nm_r (nI_1 _) ?_) (fun k2 => And.intro ein (And.intro (vp_in_nI hc (by decide)) (br_c (fun hv => And.intro ein (nm_r hG.2.1 (nm_r (nI_1 _) ?_))) (fun hv => nm_r (nI_1 _) (And.intro ein (nm_r hG.2.1 (nm_r (nI_1 _) ?_)))))))
    · rw [hs, if_pos k2] at hJ
      exact br_f (nI_ge (b := 256) (by omega) (by decide)) (br_t cp_m1neg (nm_r (nI_1 _) hJ))
    · rw [hs, if_neg k2, if_pos hv, Nat.zero_add] at hJ
      exact ih (m + 1) cnt (hops + 1) _ (by omega) (by omega) hG.2.2 (fun x hx => hR x (List.mem_cons_of_mem _ hx)) hJ
    · rw [hs, if_neg k2, if_neg hv, ← Nat.add_assoc] at hJ
      exact ih (m + 1) (cnt + 1) (hops + 1) _ (by omega) (by omega) hG.2.2 (fun x hx => hR x (List.mem_cons_of_mem _ hx)) hJ
variable {h_entries h_depth : Int32} {b_kinds b_subjects b_values b_store b_openFunction b_openArg b_openNext b_regs : Nat → Int32} {cN fN lN fc : Nat} {g0 : cp_N} {W : List cp_N}
theorem cp_xsc {post : Int32 → Prop} (hst : f_status = 1) (hLX : cp_LX cN fN lN fc g0 W (nI cN) (nI fN) (nI lN) f_status f_freeCount f_first f_size f_heapSize f_depth f_cur f_inserted f_overflowed a_bodySizes a_opAt a_aAt a_bAt a_baseValue a_settledValue a_outputValue a_changedMark a_cellHead a_cellTail a_kindOf a_subjectOf a_valueOf a_labelOf a_nextOf a_ownerOf a_leaveOf a_pcOf a_snapshot a_cellPrev a_cellNext a_sourceOf a_alive a_queued a_free a_nodeAt a_indexOf a_heap a_frameEnter a_framePc a_frameZone a_frameWait a_frameRegs) (hl : (g0 :: W).length ≤ 120) (K : post (nI (cp_sx a_baseValue (g0 :: W) cN))) : wpX_staleCount post (nI cN, nI fN, nI lN, f_status, f_freeCount, f_first, f_size, f_heapSize, f_depth, f_cur, f_inserted, f_overflowed, a_bodySizes, a_opAt, a_aAt, a_bAt, a_baseValue, a_settledValue, a_outputValue, a_changedMark, a_cellHead, a_cellTail, a_kindOf, a_subjectOf, a_valueOf, a_labelOf, a_nextOf, a_ownerOf, a_leaveOf, a_pcOf, a_snapshot, a_cellPrev, a_cellNext, a_sourceOf, a_alive, a_queued, a_free, a_nodeAt, a_indexOf, a_heap, a_frameEnter, a_framePc, a_frameZone, a_frameWait, a_frameRegs) := by
  have hR0 : ∀ g ∈ g0 :: W, cp_R0 a_kindOf a_subjectOf a_valueOf g := fun g hg => (hLX.1.2.1 g hg).1
  have hDS := hLX.2.2.2.2.2.2.1
  have h16 := hLX.1.1.2.2.1
  have main : ∀ (k i m : Nat), i + k = cN → k < m → wX_staleCount_14 post (nI cN) (nI fN) (nI lN) f_status f_freeCount f_first f_size f_heapSize f_depth f_cur f_inserted f_overflowed a_bodySizes a_opAt a_aAt a_bAt a_baseValue a_settledValue a_outputValue a_changedMark a_cellHead a_cellTail a_kindOf a_subjectOf a_valueOf a_labelOf a_nextOf a_ownerOf a_leaveOf a_pcOf a_snapshot a_cellPrev a_cellNext a_sourceOf a_alive a_queued a_free a_nodeAt a_indexOf a_heap a_frameEnter a_framePc a_frameZone a_frameWait a_frameRegs m (nI (cp_sx a_baseValue (g0 :: W) i)) (nI i) := by
    intro k
    induction k with
    | zero =>
      intro i m hi hm
      obtain ⟨m, rfl⟩ : ∃ m', m = m' + 1 := ⟨m - 1, by omega⟩
      obtain rfl : i = cN := by omega
      exact br_t (Int32.le_refl _) K
    | succ k ih =>
      intro i m hi hm
      obtain ⟨m, rfl⟩ : ∃ m', m = m' + 1 := ⟨m - 1, by omega⟩
      have hl' : (cp_fl i (g0 :: W)).length ≤ 255 := Nat.le_trans cp_fl_len (by omega)
      refine br_f (nI_ge (by omega) (by omega)) (And.intro (vp_in_nI (by omega) (by decide)) ?_)
      rw [nI_clamp (n := i) (by omega)]
      refine nm_r (hDS i (by omega)).1.1 ⟨(cp_fl i (g0 :: W)).length + 2, ?_⟩
      refine cp_xs32 (c := i) (by omega) (cp_fl i (g0 :: W)) _ _ 0 (-1) (by omega) (by omega) (hDS i (by omega)).1.2.2 (fun g hg => hR0 g (cp_fl_mem hg).1) ?_
      exact ih (i + 1) m (by omega) (by omega)
  exact br_t hst ⟨cN + 1, main cN 0 (cN + 1) (by omega) (by omega)⟩
theorem cp_ysc {post : Int32 → Prop} (hst : f_status = 1) (hLX : cp_LX cN fN lN fc g0 W (nI cN) (nI fN) (nI lN) f_status f_freeCount f_first f_size f_heapSize f_depth f_cur f_inserted f_overflowed a_bodySizes a_opAt a_aAt a_bAt a_baseValue a_settledValue a_outputValue a_changedMark a_cellHead a_cellTail a_kindOf a_subjectOf a_valueOf a_labelOf a_nextOf a_ownerOf a_leaveOf a_pcOf a_snapshot a_cellPrev a_cellNext a_sourceOf a_alive a_queued a_free a_nodeAt a_indexOf a_heap a_frameEnter a_framePc a_frameZone a_frameWait a_frameRegs) (he0 : h_entries = nI (g0 :: W).length) (hT0 : cp_Tr b_kinds b_subjects b_values 0 (g0 :: W)) (hl : (g0 :: W).length ≤ 120) (K : post (nI (cp_sx a_baseValue (g0 :: W) cN))) : wpY_staleCount post (nI cN, nI fN, nI lN, f_status, h_entries, h_depth, a_opAt, a_aAt, a_bAt, a_bodySizes, a_baseValue, a_settledValue, a_outputValue, a_changedMark, b_kinds, b_subjects, b_values, b_store, b_openFunction, b_openArg, b_openNext, b_regs) := by
  have hsum : cp_sx a_baseValue (g0 :: W) cN = cp_sy a_baseValue [] (g0 :: W) := by
    have := cp_sxy (base := a_baseValue) (cN := cN) (g0 :: W) [] (fun x hx => ⟨(hLX.1.2.1 x hx).1.1, fun h => (hLX.1.2.1 x hx).2.2.2.2.1 (Or.inl h)⟩)
    rw [cp_sx_nil, Nat.zero_add] at this
    exact this
  rw [hsum] at K
  have main : ∀ (t a : List cp_N) (m cnt : Nat), g0 :: W = a ++ t → t.length < m → cnt + cp_sy a_baseValue a t = cp_sy a_baseValue [] (g0 :: W) → wY_staleCount_14 post (nI cN) (nI fN) (nI lN) f_status h_entries h_depth a_opAt a_aAt a_bAt a_bodySizes a_baseValue a_settledValue a_outputValue a_changedMark b_kinds b_subjects b_values b_store b_openFunction b_openArg b_openNext b_regs m (nI cnt) (nI a.length) := by
    intro t
    induction t with
    | nil =>
      intro a m cnt e hm hc
      obtain ⟨m, rfl⟩ : ∃ m', m = m' + 1 := ⟨m - 1, by omega⟩
      rw [List.append_nil] at e
      have hc' : cnt = cp_sy a_baseValue [] (g0 :: W) := hc
      rw [hc']
      refine br_t ?_ K
      rw [he0, e]; exact Int32.le_refl _
    | cons g t ih =>
      intro a m cnt e hm hc
      have hlen : (g :: t).length = t.length + 1 := rfl
      obtain ⟨m, rfl⟩ : ∃ m', m = m' + 1 := ⟨m - 1, by omega⟩
      have hj : a.length < (g0 :: W).length := by rw [e, List.length_append]; omega
      have hla : (a ++ [g]).length = a.length + 1 := by simp
      have e' : g0 :: W = (a ++ [g]) ++ t := by rw [e]; simp
      have hcy : cp_sy a_baseValue a (g :: t) = (if cp_sl a_baseValue a g = 0 then 0 else 1) + cp_sy a_baseValue (a ++ [g]) t := rfl
      have hne : ¬ h_entries ≤ nI a.length := by rw [he0]; exact nI_ge hj (by omega)
      refine br_f hne ?_
      refine cp_ystale hLX hT0 e hj hl (fun post h => br_t hst (br_f (nI_pos (by omega)) (br_f hne h))) ?_
      refine br_c (fun h => nm_r (nI_1 _) ?_) (fun h => nm_r (nI_1 _) (nm_r (nI_1 _) ?_))
      · have := ih (a ++ [g]) m cnt e' (by omega) (by rw [hcy, if_pos h] at hc; omega)
        rw [hla] at this
        exact this
      · have := ih (a ++ [g]) m (cnt + 1) e' (by omega) (by rw [hcy, if_neg h] at hc; omega)
        rw [hla] at this
        exact this
  exact br_t hst ⟨(g0 :: W).length + 1, main (g0 :: W) [] ((g0 :: W).length + 1) 0 rfl (by omega) (Nat.zero_add _)⟩
end
theorem i_vc_staleCount {k : Nat} {u : SX} {v : SY} (I : i_Rel k u v) (hk : k + 5 ≤ 2563) : wpX_staleCount (fun r => wpY_staleCount (fun r' => r' = r ∧ i_Rel (k + 5) u v) v) u := by
  refine cp_el (P := fun u v => wpX_staleCount (fun r => wpY_staleCount (fun r' => r' = r ∧ i_Rel (k + 5) u v) v) u) ?_ I
  intro f_cells f_functions f_limit f_status f_freeCount f_first f_size f_heapSize f_depth f_cur f_inserted f_overflowed a_bodySizes a_opAt a_aAt a_bAt a_baseValue a_settledValue a_outputValue a_changedMark a_cellHead a_cellTail a_kindOf a_subjectOf a_valueOf a_labelOf a_nextOf a_ownerOf a_leaveOf a_pcOf a_snapshot a_cellPrev a_cellNext a_sourceOf a_alive a_queued a_free a_nodeAt a_indexOf a_heap a_frameEnter a_framePc a_frameZone a_frameWait a_frameRegs h_entries h_depth b_kinds b_subjects b_values b_store b_openFunction b_openArg b_openNext b_regs cN fN lN hF
  have hR : i_Rel (k + 5) (nI cN, nI fN, nI lN, f_status, f_freeCount, f_first, f_size, f_heapSize, f_depth, f_cur, f_inserted, f_overflowed, a_bodySizes, a_opAt, a_aAt, a_bAt, a_baseValue, a_settledValue, a_outputValue, a_changedMark, a_cellHead, a_cellTail, a_kindOf, a_subjectOf, a_valueOf, a_labelOf, a_nextOf, a_ownerOf, a_leaveOf, a_pcOf, a_snapshot, a_cellPrev, a_cellNext, a_sourceOf, a_alive, a_queued, a_free, a_nodeAt, a_indexOf, a_heap, a_frameEnter, a_framePc, a_frameZone, a_frameWait, a_frameRegs) (nI cN, nI fN, nI lN, f_status, h_entries, h_depth, a_opAt, a_aAt, a_bAt, a_bodySizes, a_baseValue, a_settledValue, a_outputValue, a_changedMark, b_kinds, b_subjects, b_values, b_store, b_openFunction, b_openArg, b_openNext, b_regs) := cp_in hF
  obtain ⟨⟨g1, g2, g3, g4, g5, g6⟩, hC, hch, hL⟩ := hF
  by_cases h1 : f_status = 1
  case neg => exact br_f h1 (br_f h1 ⟨rfl, hR⟩)
  obtain ⟨fc, g0, W, hLX, hset, he0, hT0⟩ := hL h1
  have hle := hLX.2.1
  exact cp_xsc h1 hLX (by omega) (cp_ysc h1 hLX he0 hT0 (by omega) ⟨rfl, hR⟩)
theorem i_vc_edit {k : Nat} {u : SX} {v : SY} (I : i_Rel k u v) (hk : k + 5 ≤ 2563) (v1 : Int32) (v2 : Int32) : wpX_edit (fun r u' => wpY_edit (fun r' v' => r' = r ∧ i_Rel (k + 5) u' v') v v1 v2) u v1 v2 := by
  refine cp_el (P := fun u v => wpX_edit (fun r u' => wpY_edit (fun r' v' => r' = r ∧ i_Rel (k + 5) u' v') v v1 v2) u v1 v2) ?_ I
  intro f_cells f_functions f_limit f_status f_freeCount f_first f_size f_heapSize f_depth f_cur f_inserted f_overflowed a_bodySizes a_opAt a_aAt a_bAt a_baseValue a_settledValue a_outputValue a_changedMark a_cellHead a_cellTail a_kindOf a_subjectOf a_valueOf a_labelOf a_nextOf a_ownerOf a_leaveOf a_pcOf a_snapshot a_cellPrev a_cellNext a_sourceOf a_alive a_queued a_free a_nodeAt a_indexOf a_heap a_frameEnter a_framePc a_frameZone a_frameWait a_frameRegs h_entries h_depth b_kinds b_subjects b_values b_store b_openFunction b_openArg b_openNext b_regs cN fN lN hF
  have hR : i_Rel (k + 5) (nI cN, nI fN, nI lN, f_status, f_freeCount, f_first, f_size, f_heapSize, f_depth, f_cur, f_inserted, f_overflowed, a_bodySizes, a_opAt, a_aAt, a_bAt, a_baseValue, a_settledValue, a_outputValue, a_changedMark, a_cellHead, a_cellTail, a_kindOf, a_subjectOf, a_valueOf, a_labelOf, a_nextOf, a_ownerOf, a_leaveOf, a_pcOf, a_snapshot, a_cellPrev, a_cellNext, a_sourceOf, a_alive, a_queued, a_free, a_nodeAt, a_indexOf, a_heap, a_frameEnter, a_framePc, a_frameZone, a_frameWait, a_frameRegs) (nI cN, nI fN, nI lN, f_status, h_entries, h_depth, a_opAt, a_aAt, a_bAt, a_bodySizes, a_baseValue, a_settledValue, a_outputValue, a_changedMark, b_kinds, b_subjects, b_values, b_store, b_openFunction, b_openArg, b_openNext, b_regs) := cp_in hF
  obtain ⟨⟨g1, g2, g3, g4, g5, g6⟩, hC, hch, hL⟩ := hF
  rcases pk_ix v1 (n := cN) (by omega) with h2 | h2 | ⟨c, hc, rfl⟩
  · refine br_t h2 ?_
    unfold wpY_edit
    exact cp_isC (fun _ => br_t rfl ⟨rfl, hR⟩) (fun a _ => absurd h2 a)
  · by_cases h2' : v1 < 0
    · refine br_t h2' ?_
      unfold wpY_edit
      exact cp_isC (fun _ => br_t rfl ⟨rfl, hR⟩) (fun a _ => absurd h2' a)
    · refine br_f h2' (br_f (fun a => (cp_ge _ _).mp h2 a) ?_)
      unfold wpY_edit
      exact cp_isC (fun _ => br_t rfl ⟨rfl, hR⟩) (fun _ a => absurd h2 a)
  have hf0 : ¬ nI c < 0 := nI_pos (by omega)
  have hff : ¬ nI cN ≤ nI c := nI_ge hc (by omega)
  have inc : vp_in (nI c) 16 := vp_in_nI (by omega) (by decide)
  have ec : (nI c).toNatClampNeg = c := nI_clamp (by omega)
  have hR2 : i_Rel (k + 5) (nI cN, nI fN, nI lN, f_status, f_freeCount, f_first, f_size, f_heapSize, f_depth, f_cur, f_inserted, f_overflowed, a_bodySizes, a_opAt, a_aAt, a_bAt, upd a_baseValue c v2, a_settledValue, a_outputValue, a_changedMark, a_cellHead, a_cellTail, a_kindOf, a_subjectOf, a_valueOf, a_labelOf, a_nextOf, a_ownerOf, a_leaveOf, a_pcOf, a_snapshot, a_cellPrev, a_cellNext, a_sourceOf, a_alive, a_queued, a_free, a_nodeAt, a_indexOf, a_heap, a_frameEnter, a_framePc, a_frameZone, a_frameWait, a_frameRegs) (nI cN, nI fN, nI lN, f_status, h_entries, h_depth, a_opAt, a_aAt, a_bAt, a_bodySizes, upd a_baseValue c v2, a_settledValue, a_outputValue, a_changedMark, b_kinds, b_subjects, b_values, b_store, b_openFunction, b_openArg, b_openNext, b_regs) := cp_in ⟨⟨g1, g2, g3, g4, g5, g6⟩, hC, hch, hL⟩
  refine br_f hf0 (br_t (nI_lt hc (by omega)) (And.intro inc ?_))
  rw [ec]
  refine nm_e ?_
  have hY : ∀ r : Int32, wpY_staleCount (fun r' => r' = r ∧ i_Rel (k + 5) (nI cN, nI fN, nI lN, f_status, f_freeCount, f_first, f_size, f_heapSize, f_depth, f_cur, f_inserted, f_overflowed, a_bodySizes, a_opAt, a_aAt, a_bAt, upd a_baseValue c v2, a_settledValue, a_outputValue, a_changedMark, a_cellHead, a_cellTail, a_kindOf, a_subjectOf, a_valueOf, a_labelOf, a_nextOf, a_ownerOf, a_leaveOf, a_pcOf, a_snapshot, a_cellPrev, a_cellNext, a_sourceOf, a_alive, a_queued, a_free, a_nodeAt, a_indexOf, a_heap, a_frameEnter, a_framePc, a_frameZone, a_frameWait, a_frameRegs) (nI cN, nI fN, nI lN, f_status, h_entries, h_depth, a_opAt, a_aAt, a_bAt, a_bodySizes, upd a_baseValue c v2, a_settledValue, a_outputValue, a_changedMark, b_kinds, b_subjects, b_values, b_store, b_openFunction, b_openArg, b_openNext, b_regs)) (nI cN, nI fN, nI lN, f_status, h_entries, h_depth, a_opAt, a_aAt, a_bAt, a_bodySizes, upd a_baseValue c v2, a_settledValue, a_outputValue, a_changedMark, b_kinds, b_subjects, b_values, b_store, b_openFunction, b_openArg, b_openNext, b_regs) → wpY_edit (fun r' v' => r' = r ∧ i_Rel (k + 5) (nI cN, nI fN, nI lN, f_status, f_freeCount, f_first, f_size, f_heapSize, f_depth, f_cur, f_inserted, f_overflowed, a_bodySizes, a_opAt, a_aAt, a_bAt, upd a_baseValue c v2, a_settledValue, a_outputValue, a_changedMark, a_cellHead, a_cellTail, a_kindOf, a_subjectOf, a_valueOf, a_labelOf, a_nextOf, a_ownerOf, a_leaveOf, a_pcOf, a_snapshot, a_cellPrev, a_cellNext, a_sourceOf, a_alive, a_queued, a_free, a_nodeAt, a_indexOf, a_heap, a_frameEnter, a_framePc, a_frameZone, a_frameWait, a_frameRegs) v') (nI cN, nI fN, nI lN, f_status, h_entries, h_depth, a_opAt, a_aAt, a_bAt, a_bodySizes, a_baseValue, a_settledValue, a_outputValue, a_changedMark, b_kinds, b_subjects, b_values, b_store, b_openFunction, b_openArg, b_openNext, b_regs) (nI c) v2 := by
    intro r h
    unfold wpY_edit
    refine cp_isC (fun o => (o.elim hf0 hff).elim) (fun _ _ => br_f (by decide) (And.intro inc ?_))
    rw [ec]
    exact nm_e h
  by_cases h1 : f_status = 1
  case neg => exact br_f h1 (hY 0 (br_f h1 ⟨rfl, hR2⟩))
  obtain ⟨fc, g0, W, hLX, hset, he0, hT0⟩ := hL h1
  have hle := hLX.2.1
  have hLX2 : cp_LX cN fN lN fc g0 W (nI cN) (nI fN) (nI lN) f_status f_freeCount f_first f_size f_heapSize f_depth f_cur f_inserted f_overflowed a_bodySizes a_opAt a_aAt a_bAt (upd a_baseValue c v2) a_settledValue a_outputValue a_changedMark a_cellHead a_cellTail a_kindOf a_subjectOf a_valueOf a_labelOf a_nextOf a_ownerOf a_leaveOf a_pcOf a_snapshot a_cellPrev a_cellNext a_sourceOf a_alive a_queued a_free a_nodeAt a_indexOf a_heap a_frameEnter a_framePc a_frameZone a_frameWait a_frameRegs := hLX
  exact cp_xsc h1 hLX2 (by omega) (hY _ (cp_ysc h1 hLX2 he0 hT0 (by omega) ⟨rfl, hR2⟩))
end
