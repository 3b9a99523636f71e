section
/-- naturals as ints, place by place -/
def nr_v (C : Nat → Nat) : Nat → Int32 := fun j => nI (C j)
def nr_up (C : Nat → Nat) (k v : Nat) : Nat → Nat := fun j => if j = k then v else C j
theorem nr_us (C : Nat → Nat) (k v : Nat) : nr_up C k v k = v := if_pos rfl
theorem nr_un {C : Nat → Nat} {k v j : Nat} (h : j ≠ k) : nr_up C k v j = C j := if_neg h
theorem nr_vu (C : Nat → Nat) (k v : Nat) : nr_v (nr_up C k v) = upd (nr_v C) k (nI v) := by
  funext j
  by_cases h : j = k
  · rw [h, pk_us]
    exact congrArg nI (nr_us C k v)
  · rw [pk_un h]
    exact congrArg nI (nr_un h)
/-- a counted loop as a fold -/
def nr_it {σ : Type} (f : Nat → σ → σ) (s : σ) : Nat → σ
  | 0 => s
  | n + 1 => f n (nr_it f s n)
theorem nr_ind {σ : Type} {f : Nat → σ → σ} {s : σ} (P : Nat → σ → Prop) (h0 : P 0 s) : ∀ n, (∀ i t, i < n → P i t → P (i + 1) (f i t)) → P n (nr_it f s n)
  | 0, _ => h0
  | n + 1, hs => hs n _ (Nat.lt_succ_self n) (nr_ind P h0 n (fun i t hi ht => hs i t (Nat.lt_succ_of_lt hi) ht))
theorem nr_stop {σ : Type} {f : Nat → σ → σ} {s : σ} (i : Nat) (h : ∀ j, f j (nr_it f s i) = nr_it f s i) : ∀ k, nr_it f s (i + k) = nr_it f s i
  | 0 => rfl
  | k + 1 => by
    show f (i + k) (nr_it f s (i + k)) = _
    rw [nr_stop i h k]
    exact h _
/-- the cell of a membership -/
def nr_c (k n x : Nat) : Nat := k * 18 + n * 6 + x
theorem nr_cl {k n x : Nat} (hk : k < 6) (hn : n < 3) (hx : x < 6) : nr_c k n x < 108 := by
  unfold nr_c
  omega
theorem nr_ci (k n x : Nat) : (nI k * 18 + nI n * 6) + nI x = nI (nr_c k n x) := by
  show (nI k * nI 18 + nI n * nI 6) + nI x = _
  rw [pk_mul, pk_mul, nI_add, nI_add]
  rfl
theorem nr_cj {k n x r : Nat} (hn : n < 3) (hx : x < 6) (h : nr_c k n x = r) : k = r / 18 ∧ n = r % 18 / 6 ∧ x = r % 6 := by
  unfold nr_c at h
  omega
theorem nr_cr (r : Nat) : nr_c (r / 18) (r % 18 / 6) (r % 6) = r := by
  unfold nr_c
  omega
/-- a certificate's bit -/
def nr_h (cs : Int32) (i : Nat) : Bool := decide (¬ ((cs >>> (nI i &&& 31)) &&& 1) = 0)
theorem nr_h1 {cs : Int32} {i : Nat} (h : ¬ ((cs >>> (nI i &&& 31)) &&& 1) = 0) : nr_h cs i = true := decide_eq_true h
theorem nr_h0 {cs : Int32} {i : Nat} (h : ((cs >>> (nI i &&& 31)) &&& 1) = 0) : nr_h cs i = false := decide_eq_false (fun q => q h)
theorem nr_hT {cs : Int32} {i : Nat} (h : nr_h cs i = true) : ¬ ((cs >>> (nI i &&& 31)) &&& 1) = 0 := of_decide_eq_true h
theorem nr_hF {cs : Int32} {i : Nat} (h : nr_h cs i = false) : ((cs >>> (nI i &&& 31)) &&& 1) = 0 := Decidable.byContradiction (of_decide_eq_false h)
/-- the names of a path -/
def nr_f (w : Nat) : Nat := if w ≤ 3 then w - 1 else (w - 4) / 3
def nr_s (w : Nat) : Nat := (w - 4) % 3
theorem nr_fl {w : Nat} (h : w ≤ 12) : nr_f w < 3 := by
  unfold nr_f
  split <;> omega
theorem nr_sl (w : Nat) : nr_s w < 3 := by
  unfold nr_s
  omega
/-- an offer -/
def nr_of (C : Nat → Nat) (l c : Nat) : Nat → Nat := if c ≤ 999 ∧ c < C l then nr_up C l c else C
def nr_bd (C : Nat → Nat) : Prop := ∀ j, C j ≤ 1048576
theorem nr_of_le (C : Nat → Nat) (l c j : Nat) : nr_of C l c j ≤ C j := by
  unfold nr_of
  split
  · by_cases e : j = l
    · rw [e, nr_us]
      omega
    · rw [nr_un e]
      exact Nat.le_refl _
  · exact Nat.le_refl _
theorem nr_of_bd {C : Nat → Nat} {l c : Nat} (h : nr_bd C) : nr_bd (nr_of C l c) := fun j => Nat.le_trans (nr_of_le C l c j) (h j)
theorem nr_of_at (C : Nat → Nat) {l c : Nat} (h : c ≤ 999) : nr_of C l c l ≤ c := by
  unfold nr_of
  split
  · rw [nr_us]
    exact Nat.le_refl _
  · omega
theorem nr_of_ne {C : Nat → Nat} {l c j : Nat} (h : j ≠ l) : nr_of C l c j = C j := by
  unfold nr_of
  split
  · exact nr_un h
  · rfl
theorem nr_of_v (C : Nat → Nat) (l c : Nat) : nr_of C l c l = C l ∨ (nr_of C l c l = c ∧ c ≤ 999 ∧ c < C l) := by
  unfold nr_of
  split
  · rename_i h
    exact Or.inr ⟨nr_us C l c, h.1, h.2⟩
  · exact Or.inl rfl
/-- the first place of the least value among those that are free and below 1048576 -/
def nr_mn (ok : Nat → Bool) (C : Nat → Nat) : Nat → Option Nat
  | 0 => none
  | n + 1 => match nr_mn ok C n with
    | none => if ok n = true ∧ C n < 1048576 then some n else none
    | some b => if ok n = true ∧ C n < 1048576 ∧ C n < C b then some n else some b
theorem nr_mn_n {ok : Nat → Bool} {C : Nat → Nat} {n : Nat} (h : nr_mn ok C n = none) : nr_mn ok C (n + 1) = if ok n = true ∧ C n < 1048576 then some n else none := by
  rw [nr_mn, h]
theorem nr_mn_s {ok : Nat → Bool} {C : Nat → Nat} {n b : Nat} (h : nr_mn ok C n = some b) : nr_mn ok C (n + 1) = if ok n = true ∧ C n < 1048576 ∧ C n < C b then some n else some b := by
  rw [nr_mn, h]
theorem nr_mn_p (ok : Nat → Bool) (C : Nat → Nat) : ∀ n, (nr_mn ok C n = none ∧ ∀ i, i < n → ok i = true → ¬ C i < 1048576) ∨ (∃ b, nr_mn ok C n = some b ∧ b < n ∧ ok b = true ∧ C b < 1048576 ∧ ∀ i, i < n → ok i = true → C b ≤ C i)
  | 0 => Or.inl ⟨rfl, fun i hi => absurd hi (by omega)⟩
  | n + 1 => by
    rcases nr_mn_p ok C n with ⟨e, h⟩ | ⟨b, e, hb, ho, hc, h⟩
    · rw [nr_mn_n e]
      by_cases z : ok n = true ∧ C n < 1048576
      · rw [if_pos z]
        refine Or.inr ⟨n, rfl, by omega, z.1, z.2, fun i hi hoi => ?_⟩
        by_cases ei : i = n
        · rw [ei]
          exact Nat.le_refl _
        · have := h i (by omega) hoi
          omega
      · rw [if_neg z]
        refine Or.inl ⟨rfl, fun i hi hoi hci => ?_⟩
        by_cases ei : i = n
        · rw [ei] at hoi hci
          exact z ⟨hoi, hci⟩
        · exact h i (by omega) hoi hci
    · rw [nr_mn_s e]
      by_cases z : ok n = true ∧ C n < 1048576 ∧ C n < C b
      · rw [if_pos z]
        refine Or.inr ⟨n, rfl, by omega, z.1, z.2.1, fun i hi hoi => ?_⟩
        by_cases ei : i = n
        · rw [ei]
          exact Nat.le_refl _
        · have := h i (by omega) hoi
          omega
      · rw [if_neg z]
        refine Or.inr ⟨b, rfl, by omega, ho, hc, fun i hi hoi => ?_⟩
        by_cases ei : i = n
        · rw [ei] at hoi ⊢
          by_cases z2 : C n < C b
          · exact absurd ⟨hoi, by omega, z2⟩ z
          · omega
        · exact h i (by omega) hoi
theorem nr_mn_none {ok : Nat → Bool} {C : Nat → Nat} {n : Nat} (h : nr_mn ok C n = none) : ∀ i, i < n → ok i = true → ¬ C i < 1048576 := by
  rcases nr_mn_p ok C n with ⟨_, h2⟩ | ⟨b, e, _⟩
  · exact h2
  · rw [h] at e
    exact absurd e.symm (Option.some_ne_none b)
theorem nr_mn_some {ok : Nat → Bool} {C : Nat → Nat} {n b : Nat} (h : nr_mn ok C n = some b) : b < n ∧ ok b = true ∧ C b < 1048576 ∧ ∀ i, i < n → ok i = true → C b ≤ C i := by
  rcases nr_mn_p ok C n with ⟨e, _⟩ | ⟨b', e, h2⟩
  · rw [h] at e
    exact absurd e (Option.some_ne_none b)
  · rw [h] at e
    cases e
    exact h2
def nr_en : Option Nat → Int32
  | none => -1
  | some b => nI b
/-- a set of bits -/
def nr_bs (b : Nat → Bool) : Nat → Int32 := nr_it (fun x v => if b x = true then v ||| ((1 : Int32) <<< (nI x &&& 31)) else v) 0
def nr_b6 (b0 b1 b2 b3 b4 b5 : Bool) : Int32 := nr_bs (fun x => match x with | 0 => b0 | 1 => b1 | 2 => b2 | 3 => b3 | 4 => b4 | _ => b5) 6
theorem nr_b6e (b : Nat → Bool) : nr_bs b 6 = nr_b6 (b 0) (b 1) (b 2) (b 3) (b 4) (b 5) := rfl
theorem nr_b6t : ∀ b0 b1 b2 b3 b4 b5 : Bool, ∀ x : Fin 6, (((nr_b6 b0 b1 b2 b3 b4 b5 >>> (nI x.val &&& 31)) &&& 1) = 1) ↔ (match x.val with | 0 => b0 | 1 => b1 | 2 => b2 | 3 => b3 | 4 => b4 | _ => b5) = true := by decide +kernel
theorem nr_b6n : ∀ b0 b1 b2 b3 b4 b5 : Bool, (nr_b6 b0 b1 b2 b3 b4 b5).toInt8.toInt32 = nr_b6 b0 b1 b2 b3 b4 b5 := by decide +kernel
theorem nr_bit (b : Nat → Bool) {x : Nat} (hx : x < 6) : (((nr_bs b 6 >>> (nI x &&& 31)) &&& 1) = 1) ↔ b x = true := by
  rw [nr_b6e]
  refine Iff.trans (nr_b6t (b 0) (b 1) (b 2) (b 3) (b 4) (b 5) ⟨x, hx⟩) ?_
  match x, hx with
  | 0, _ => exact Iff.rfl
  | 1, _ => exact Iff.rfl
  | 2, _ => exact Iff.rfl
  | 3, _ => exact Iff.rfl
  | 4, _ => exact Iff.rfl
  | 5, _ => exact Iff.rfl
theorem nr_byt (b : Nat → Bool) : (nr_bs b 6).toInt8.toInt32 = nr_bs b 6 := by
  rw [nr_b6e]
  exact nr_b6n _ _ _ _ _ _
end
section
section
variable {pr cs gs os sv : Int32} {a1 a2 a3 a4 a5 a6 a7 a8 a9 a10 a11 a12 : Nat → Int32}
theorem nr_hc {post : Int32 → Prop} {i : Nat} (hi : i < 10) (h1 : nr_h cs i = true → post 1) (h0 : nr_h cs i = false → post 0) : wpX_hasCert post (pr, cs, gs, os, sv, a1, a2, a3, a4, a5, a6, a7, a8, a9, a10, a11, a12) (nI i) := by
  unfold wpX_hasCert
  exact pk_lt i 0 (fun z => absurd z (by omega)) (fun _ => pk_le 10 i (fun z => absurd z (by omega)) (fun _ => br_c (fun z => h0 (nr_h0 z)) (fun z => h1 (nr_h1 z))))
end
theorem nr_fn {post : Int32 → Prop} {u : St2} {w : Nat} (h1 : 1 ≤ w) (hw : w ≤ 12) (h : post (nI (nr_f w))) : wpX_firstName post u (nI w) := by
  unfold wpX_firstName
  unfold nr_f at h
  refine pk_lt 3 w (fun z => ⟨by decide, ?_⟩) (fun z => ?_)
  · rw [if_neg (by omega)] at h
    show post ((nI w - nI 4) / nI 3)
    rw [pk_sub (by omega), pk_div (by omega) (by omega) (by omega)]
    exact h
  · rw [if_pos z] at h
    show post (nI w - nI 1)
    rw [pk_sub (by omega)]
    exact h
theorem nr_sn {post : Int32 → Prop} {u : St2} {w : Nat} (h1 : 4 ≤ w) (hw : w ≤ 12) (h : post (nI (nr_s w))) : wpX_secondName post u (nI w) := by
  unfold wpX_secondName
  refine ⟨by decide, ?_⟩
  show post ((nI w - nI 4) - (nI w - nI 4) / nI 3 * nI 3)
  rw [pk_sub (by omega), pk_rem (by omega) (by omega) (by omega)]
  exact h
theorem nr_co {post : Int32 → Prop} {u : St2} {k n x : Nat} (h : post (nI (nr_c k n x))) : wpX_cellOf post u (nI k) (nI n) (nI x) := by
  unfold wpX_cellOf
  rw [nr_ci]
  exact h
theorem nr_sum (a b : Nat) : nI a + nI b + 1 = nI (a + b + 1) := by rw [nI_add, nI_1]
/-- the certificates' places are in range -/
def nr_tv (ow nm pp pw : Nat → Nat) : Prop := ∀ i, i < 10 → ow i < 6 ∧ nm i < 3 ∧ pp i < 6 ∧ pw i ≤ 12
def nr_cf (st : Nat → Int32) (ow nm pp pw : Nat → Nat) (i q x c : Nat) (C : Nat → Nat) : Nat → Nat :=
  if st (nr_c (pp i) (nr_f (pw i)) q) = 0 then C else nr_of C (nr_c (ow i) (nm i) x) (c + C (nr_c (pp i) (nr_f (pw i)) q) + 1)
def nr_ps (st : Nat → Int32) (ow nm pw : Nat → Nat) (i q c : Nat) (y : Nat) (D : Nat → Nat) : Nat → Nat :=
  if st (nr_c q (nr_s (pw i)) y) = 0 then D else nr_of D (nr_c (ow i) (nm i) y) (c + D (nr_c q (nr_s (pw i)) y) + 1)
def nr_po (st : Nat → Int32) (ow nm pw : Nat → Nat) (i q c : Nat) (C : Nat → Nat) : Nat → Nat := nr_it (nr_ps st ow nm pw i q c) C 6
def nr_s1 (ow nm pp pw : Nat → Nat) (k n x c i : Nat) (C : Nat → Nat) : Nat → Nat :=
  if pw i ≤ 3 ∧ pp i = k ∧ nr_f (pw i) = n then nr_of C (nr_c (ow i) (nm i) x) (c + 1) else C
def nr_s2 (st : Nat → Int32) (ow nm pp pw : Nat → Nat) (k n x c i : Nat) (C : Nat → Nat) : Nat → Nat :=
  if 3 < pw i ∧ pp i = k ∧ nr_f (pw i) = n then nr_po st ow nm pw i x c C else C
def nr_s3 (st : Nat → Int32) (ow nm pp pw : Nat → Nat) (k n x c i : Nat) (C : Nat → Nat) : Nat → Nat :=
  if 3 < pw i ∧ nr_s (pw i) = n then nr_cf st ow nm pp pw i k x c C else C
def nr_sg (cs : Int32) (st : Nat → Int32) (ow nm pp pw : Nat → Nat) (k n x c i : Nat) (C : Nat → Nat) : Nat → Nat :=
  if nr_h cs i = true ∧ 0 < pw i then nr_s3 st ow nm pp pw k n x c i (nr_s2 st ow nm pp pw k n x c i (nr_s1 ow nm pp pw k n x c i C)) else C
def nr_sp (cs : Int32) (st : Nat → Int32) (ow nm pp pw : Nat → Nat) (k n x c : Nat) (C : Nat → Nat) : Nat → Nat := nr_it (nr_sg cs st ow nm pp pw k n x c) C 10
def nr_fr (st : Nat → Int32) : Nat → Bool := fun i => decide (st i = 0)
def nr_rd (cs : Int32) (ow nm pp pw : Nat → Nat) (s : (Nat → Nat) × (Nat → Int32)) : (Nat → Nat) × (Nat → Int32) :=
  match nr_mn (nr_fr s.2) s.1 108 with
  | none => s
  | some r => (nr_sp cs (upd s.2 r 1) ow nm pp pw (r / 18) (r % 18 / 6) (r % 6) (s.1 r) s.1, upd s.2 r 1)
def nr_i0 (cs : Int32) (ow nm pp pw : Nat → Nat) (i : Nat) (D : Nat → Nat) : Nat → Nat :=
  if nr_h cs i = true ∧ pw i = 0 then nr_of D (nr_c (ow i) (nm i) (pp i)) 1 else D
def nr_C0 : Nat → Nat := fun j => if j < 108 then 1048576 else 0
def nr_ini (cs : Int32) (ow nm pp pw : Nat → Nat) : Nat → Nat := nr_it (nr_i0 cs ow nm pp pw) nr_C0 10
/-- what solve computes: the costs and what is settled -/
def nr_sol (cs : Int32) (ow nm pp pw : Nat → Nat) : (Nat → Nat) × (Nat → Int32) := nr_it (fun _ => nr_rd cs ow nm pp pw) (nr_ini cs ow nm pp pw, fun _ => 0) 108
def nr_ok (cs : Int32) (ow nm pp pw : Nat → Nat) (sv : Int32) (a8 a9 : Nat → Int32) : Prop :=
  (sv = 0 ∧ ∀ j, 108 ≤ j → a8 j = 0 ∧ a9 j = 0) ∨ (sv = 1 ∧ a8 = nr_v (nr_sol cs ow nm pp pw).1 ∧ a9 = (nr_sol cs ow nm pp pw).2)
theorem nr_po_bd {st : Nat → Int32} {ow nm pw : Nat → Nat} {i q c : Nat} {C : Nat → Nat} (h : nr_bd C) : nr_bd (nr_po st ow nm pw i q c C) := by
  refine nr_ind (fun _ D => nr_bd D) h 6 (fun y D _ hD => ?_)
  unfold nr_ps
  split
  · exact hD
  · exact nr_of_bd hD
theorem nr_cf_bd {st : Nat → Int32} {ow nm pp pw : Nat → Nat} {i q x c : Nat} {C : Nat → Nat} (h : nr_bd C) : nr_bd (nr_cf st ow nm pp pw i q x c C) := by
  unfold nr_cf
  split
  · exact h
  · exact nr_of_bd h
theorem nr_s1_bd {ow nm pp pw : Nat → Nat} {k n x c i : Nat} {C : Nat → Nat} (h : nr_bd C) : nr_bd (nr_s1 ow nm pp pw k n x c i C) := by
  unfold nr_s1
  split
  · exact nr_of_bd h
  · exact h
theorem nr_s2_bd {st : Nat → Int32} {ow nm pp pw : Nat → Nat} {k n x c i : Nat} {C : Nat → Nat} (h : nr_bd C) : nr_bd (nr_s2 st ow nm pp pw k n x c i C) := by
  unfold nr_s2
  split
  · exact nr_po_bd h
  · exact h
theorem nr_s3_bd {st : Nat → Int32} {ow nm pp pw : Nat → Nat} {k n x c i : Nat} {C : Nat → Nat} (h : nr_bd C) : nr_bd (nr_s3 st ow nm pp pw k n x c i C) := by
  unfold nr_s3
  split
  · exact nr_cf_bd h
  · exact h
theorem nr_sg_bd {cs : Int32} {st : Nat → Int32} {ow nm pp pw : Nat → Nat} {k n x c i : Nat} {C : Nat → Nat} (h : nr_bd C) : nr_bd (nr_sg cs st ow nm pp pw k n x c i C) := by
  unfold nr_sg
  split
  · exact nr_s3_bd (nr_s2_bd (nr_s1_bd h))
  · exact h
theorem nr_sp_bd {cs : Int32} {st : Nat → Int32} {ow nm pp pw : Nat → Nat} {k n x c : Nat} {C : Nat → Nat} (h : nr_bd C) : nr_bd (nr_sp cs st ow nm pp pw k n x c C) :=
  nr_ind (fun _ D => nr_bd D) h 10 (fun _ _ _ hD => nr_sg_bd hD)
theorem nr_rd_bd {cs : Int32} {ow nm pp pw : Nat → Nat} {s : (Nat → Nat) × (Nat → Int32)} (h : nr_bd s.1) : nr_bd (nr_rd cs ow nm pp pw s).1 := by
  unfold nr_rd
  split
  · exact h
  · exact nr_sp_bd h
theorem nr_i0_bd {cs : Int32} {ow nm pp pw : Nat → Nat} {i : Nat} {D : Nat → Nat} (h : nr_bd D) : nr_bd (nr_i0 cs ow nm pp pw i D) := by
  unfold nr_i0
  split
  · exact nr_of_bd h
  · exact h
theorem nr_C0_bd : nr_bd nr_C0 := by
  intro j
  unfold nr_C0
  split <;> omega
theorem nr_ini_bd (cs : Int32) (ow nm pp pw : Nat → Nat) : nr_bd (nr_ini cs ow nm pp pw) :=
  nr_ind (fun _ D => nr_bd D) nr_C0_bd 10 (fun _ _ _ hD => nr_i0_bd hD)
theorem nr_sol_bd (cs : Int32) (ow nm pp pw : Nat → Nat) : nr_bd (nr_sol cs ow nm pp pw).1 :=
  nr_ind (fun _ (s : (Nat → Nat) × (Nat → Int32)) => nr_bd s.1) (nr_ini_bd cs ow nm pp pw) 108 (fun _ _ _ hD => nr_rd_bd hD)
section
variable {pr cs gs os sv : Int32} {ow nm pp pw C : Nat → Nat} {a5 a6 a7 st a10 a11 a12 : Nat → Int32}
theorem nr_offer {post : St1 → Prop} {x' c' : Int32} (i x c : Nat) (hx' : x' = nI x) (hc' : c' = nI c) (hT : nr_tv ow nm pp pw) (hB : nr_bd C) (hi : i < 10) (hx : x < 6) (hc : c < 2 ^ 31)
    (hp : post (pr, cs, gs, os, sv, (nr_v ow), (nr_v nm), (nr_v pp), (nr_v pw), a5, a6, a7, (nr_v (nr_of C (nr_c (ow i) (nm i) x) c)), st, a10, a11, a12)) : wpX_offer post (pr, cs, gs, os, sv, (nr_v ow), (nr_v nm), (nr_v pp), (nr_v pw), a5, a6, a7, (nr_v C), st, a10, a11, a12) (nI i) x' c' := by
  subst hx' hc'
  have hl : nr_c (ow i) (nm i) x < 108 := nr_cl (hT i hi).1 (hT i hi).2.1 hx
  have hb := hB (nr_c (ow i) (nm i) x)
  unfold wpX_offer
  refine ⟨pk_in i 10 hi, pk_in i 10 hi, ?_⟩
  rw [nI_clamp (show i < 2 ^ 31 by omega)]
  refine nr_co (k := ow i) (n := nm i) (x := x) ?_
  rw [nI_clamp (show nr_c (ow i) (nm i) x < 2 ^ 31 by omega)]
  unfold nr_of at hp
  refine pk_lt 999 c (fun z => ?_) (fun z => ⟨pk_in _ 108 hl, pk_le (C (nr_c (ow i) (nm i) x)) c (fun z2 => ?_) (fun z2 => ⟨pk_in _ 108 hl, nm_e ?_⟩)⟩)
  · rw [if_neg (by omega)] at hp
    exact hp
  · rw [if_neg (by omega)] at hp
    exact hp
  · rw [if_pos ⟨z, z2⟩, nr_vu] at hp
    exact hp
theorem nr_come {post : St1 → Prop} (i q x c : Nat) (hT : nr_tv ow nm pp pw) (hB : nr_bd C) (hi : i < 10) (hq : q < 6) (hx : x < 6) (hc : c ≤ 1048576) (hw : 4 ≤ pw i)
    (hp : post (pr, cs, gs, os, sv, (nr_v ow), (nr_v nm), (nr_v pp), (nr_v pw), a5, a6, a7, (nr_v (nr_cf st ow nm pp pw i q x c C)), st, a10, a11, a12)) : wpX_comeFrom post (pr, cs, gs, os, sv, (nr_v ow), (nr_v nm), (nr_v pp), (nr_v pw), a5, a6, a7, (nr_v C), st, a10, a11, a12) (nI i) (nI q) (nI x) (nI c) := by
  obtain ⟨h1, h2, h3, h4⟩ := hT i hi
  have hl := nr_cl h3 (nr_fl h4) hq
  have hb := hB (nr_c (pp i) (nr_f (pw i)) q)
  unfold wpX_comeFrom
  refine ⟨pk_in i 10 hi, ?_⟩
  rw [nI_clamp (show i < 2 ^ 31 by omega)]
  refine nr_fn (w := pw i) (by omega) h4 ⟨pk_in i 10 hi, nr_co (k := pp i) (n := nr_f (pw i)) (x := q) ⟨pk_in _ 108 hl, ?_⟩⟩
  rw [nI_clamp (show nr_c (pp i) (nr_f (pw i)) q < 2 ^ 31 by omega)]
  unfold nr_cf at hp
  refine br_c (fun z => ?_) (fun z => ⟨pk_in _ 108 hl, ?_⟩)
  · rw [if_pos z] at hp
    exact hp
  · rw [if_neg z] at hp
    exact nr_offer i x (c + C (nr_c (pp i) (nr_f (pw i)) q) + 1) rfl (nr_sum c _) hT hB hi hx (by omega) hp
theorem nr_pass {post : St1 → Prop} (i q c : Nat) (hT : nr_tv ow nm pp pw) (hB : nr_bd C) (hi : i < 10) (hq : q < 6) (hc : c ≤ 1048576) (hw : 4 ≤ pw i)
    (hp : post (pr, cs, gs, os, sv, (nr_v ow), (nr_v nm), (nr_v pp), (nr_v pw), a5, a6, a7, (nr_v (nr_po st ow nm pw i q c C)), st, a10, a11, a12)) : wpX_passOn post (pr, cs, gs, os, sv, (nr_v ow), (nr_v nm), (nr_v pp), (nr_v pw), a5, a6, a7, (nr_v C), st, a10, a11, a12) (nI i) (nI q) (nI c) := by
  obtain ⟨h1, h2, h3, h4⟩ := hT i hi
  unfold wpX_passOn
  refine ⟨pk_in i 10 hi, ?_⟩
  rw [nI_clamp (show i < 2 ^ 31 by omega)]
  refine nr_sn (w := pw i) hw h4 ?_
  refine pk_loop (fun n y D => wX_passOn_14 post (nI i) (nI q) (nI c) (nI (nr_s (pw i))) n (nI y) pr cs gs os sv (nr_v ow) (nr_v nm) (nr_v pp) (nr_v pw) a5 a6 a7 (nr_v D) st a10 a11 a12) (fun y D => D = nr_it (nr_ps st ow nm pw i q c) C y ∧ nr_bd D) 6 0 C (by omega) ⟨rfl, hB⟩ ?_ ?_
  · intro n D h
    refine pk_le 6 6 (fun _ => ?_) (fun z => absurd z (by omega))
    rw [h.1]
    exact hp
  · intro n y D hy h hw2
    have hl := nr_cl hq (nr_sl (pw i)) hy
    have hb := h.2 (nr_c q (nr_s (pw i)) y)
    refine pk_le 6 y (fun z => absurd z (by omega)) (fun _ => nr_co (k := q) (n := nr_s (pw i)) (x := y) ⟨pk_in _ 108 hl, ?_⟩)
    rw [nI_clamp (show nr_c q (nr_s (pw i)) y < 2 ^ 31 by omega)]
    refine br_c (fun z => nm_r (nI_1 y) (hw2 D ⟨?_, h.2⟩)) (fun z => ⟨pk_in _ 108 hl, nr_offer i y (c + D (nr_c q (nr_s (pw i)) y) + 1) rfl (nr_sum c _) hT h.2 hi hy (by omega) (nm_r (nI_1 y) (hw2 _ ⟨?_, nr_of_bd h.2⟩))⟩)
    · show D = nr_ps st ow nm pw i q c y (nr_it (nr_ps st ow nm pw i q c) C y)
      rw [← h.1]
      unfold nr_ps
      rw [if_pos z]
    · show _ = nr_ps st ow nm pw i q c y (nr_it (nr_ps st ow nm pw i q c) C y)
      rw [← h.1]
      unfold nr_ps
      rw [if_neg z]
theorem nr_131 {post : St1 → Prop} {J : Int32 → Int32 → Int32 → Int32 → Int32 → Int32 → (Nat → Int32) → (Nat → Int32) → (Nat → Int32) → (Nat → Int32) → (Nat → Int32) → (Nat → Int32) → (Nat → Int32) → (Nat → Int32) → (Nat → Int32) → (Nat → Int32) → (Nat → Int32) → (Nat → Int32) → Prop}
    (k n x c i : Nat) (hT : nr_tv ow nm pp pw) (hB : nr_bd C) (hi : i < 10) (hk : k < 6) (hn : n < 3) (hx : x < 6) (hc : c ≤ 1048576)
    (hp : J (nI (i + 1)) pr cs gs os sv (nr_v ow) (nr_v nm) (nr_v pp) (nr_v pw) a5 a6 a7 (nr_v (nr_s3 st ow nm pp pw k n x c i C)) st a10 a11 a12) : wX_spread_131 post J (nI k) (nI n) (nI x) (nI c) (nI i) (nI (pw i)) pr cs gs os sv (nr_v ow) (nr_v nm) (nr_v pp) (nr_v pw) a5 a6 a7 (nr_v C) st a10 a11 a12 := by
  obtain ⟨h1, h2, h3, h4⟩ := hT i hi
  have hs := nr_sl (pw i)
  unfold wX_spread_131
  unfold nr_s3 at hp
  refine pk_le (pw i) 3 (fun z => nm_r (nI_1 i) ?_) (fun z => nr_sn (w := pw i) (by omega) h4 ?_)
  · rw [if_neg (by omega)] at hp
    exact hp
  · refine pk_eq (nr_s (pw i)) n (fun z2 => nr_come i k x c hT hB hi hk hx hc (by omega) (nm_r (nI_1 i) ?_)) (fun z2 => nm_r (nI_1 i) ?_)
    · rw [if_pos ⟨z, z2⟩] at hp
      exact hp
    · rw [if_neg (fun q => z2 q.2)] at hp
      exact hp
theorem nr_110 {post : St1 → Prop} {J : Int32 → Int32 → Int32 → Int32 → Int32 → Int32 → (Nat → Int32) → (Nat → Int32) → (Nat → Int32) → (Nat → Int32) → (Nat → Int32) → (Nat → Int32) → (Nat → Int32) → (Nat → Int32) → (Nat → Int32) → (Nat → Int32) → (Nat → Int32) → (Nat → Int32) → Prop} {z : Int32}
    (k n x c i : Nat) (hz : (z = 0 ∧ ¬ (pp i = k ∧ nr_f (pw i) = n)) ∨ (¬ z = 0 ∧ pp i = k ∧ nr_f (pw i) = n)) (hT : nr_tv ow nm pp pw) (hB : nr_bd C) (hi : i < 10) (hk : k < 6) (hn : n < 3) (hx : x < 6) (hc : c ≤ 1048576)
    (hp : J (nI (i + 1)) pr cs gs os sv (nr_v ow) (nr_v nm) (nr_v pp) (nr_v pw) a5 a6 a7 (nr_v (nr_s3 st ow nm pp pw k n x c i (nr_s2 st ow nm pp pw k n x c i C))) st a10 a11 a12) : wX_spread_110 post J (nI k) (nI n) (nI x) (nI c) (nI i) (nI (pw i)) z pr cs gs os sv (nr_v ow) (nr_v nm) (nr_v pp) (nr_v pw) a5 a6 a7 (nr_v C) st a10 a11 a12 := by
  obtain ⟨h1, h2, h3, h4⟩ := hT i hi
  unfold wX_spread_110
  refine pk_le (pw i) 3 (fun z1 => ?_) (fun z1 => ?_)
  · have e : nr_s2 st ow nm pp pw k n x c i C = C := if_neg (by omega)
    rw [e] at hp
    exact nr_131 k n x c i hT hB hi hk hn hx hc hp
  · rcases hz with ⟨h0, hf⟩ | ⟨h0, hf⟩
    · have e : nr_s2 st ow nm pp pw k n x c i C = C := if_neg (fun q => hf q.2)
      rw [e] at hp
      exact br_t h0 (nr_131 k n x c i hT hB hi hk hn hx hc hp)
    · have e : nr_s2 st ow nm pp pw k n x c i C = nr_po st ow nm pw i x c C := if_pos ⟨z1, hf⟩
      rw [e] at hp
      exact br_f h0 (nr_pass i x c hT hB hi hx hc (by omega) (nr_131 k n x c i hT (nr_po_bd hB) hi hk hn hx hc hp))
theorem nr_85 {post : St1 → Prop} {J : Int32 → Int32 → Int32 → Int32 → Int32 → Int32 → (Nat → Int32) → (Nat → Int32) → (Nat → Int32) → (Nat → Int32) → (Nat → Int32) → (Nat → Int32) → (Nat → Int32) → (Nat → Int32) → (Nat → Int32) → (Nat → Int32) → (Nat → Int32) → (Nat → Int32) → Prop} {z : Int32}
    (k n x c i : Nat) (hz : (z = 0 ∧ ¬ (pp i = k ∧ nr_f (pw i) = n)) ∨ (¬ z = 0 ∧ pp i = k ∧ nr_f (pw i) = n)) (hT : nr_tv ow nm pp pw) (hB : nr_bd C) (hi : i < 10) (hk : k < 6) (hn : n < 3) (hx : x < 6) (hc : c ≤ 1048576)
    (hp : J (nI (i + 1)) pr cs gs os sv (nr_v ow) (nr_v nm) (nr_v pp) (nr_v pw) a5 a6 a7 (nr_v (nr_s3 st ow nm pp pw k n x c i (nr_s2 st ow nm pp pw k n x c i (nr_s1 ow nm pp pw k n x c i C)))) st a10 a11 a12) : wX_spread_85 post J (nI k) (nI n) (nI x) (nI c) (nI i) (nI (pw i)) z pr cs gs os sv (nr_v ow) (nr_v nm) (nr_v pp) (nr_v pw) a5 a6 a7 (nr_v C) st a10 a11 a12 := by
  obtain ⟨h1, h2, h3, h4⟩ := hT i hi
  unfold wX_spread_85
  refine pk_lt 3 (pw i) (fun z1 => ?_) (fun z1 => ?_)
  · have e : nr_s1 ow nm pp pw k n x c i C = C := if_neg (by omega)
    rw [e] at hp
    exact nr_110 k n x c i hz hT hB hi hk hn hx hc hp
  · rcases hz with ⟨h0, hf⟩ | ⟨h0, hf⟩
    · have e : nr_s1 ow nm pp pw k n x c i C = C := if_neg (fun q => hf q.2)
      rw [e] at hp
      exact br_t h0 (nr_110 k n x c i (Or.inl ⟨h0, hf⟩) hT hB hi hk hn hx hc hp)
    · have e : nr_s1 ow nm pp pw k n x c i C = nr_of C (nr_c (ow i) (nm i) x) (c + 1) := if_pos ⟨z1, hf⟩
      rw [e] at hp
      exact br_f h0 (nr_offer i x (c + 1) rfl (nI_1 c) hT hB hi hx (by omega) (nr_110 k n x c i (Or.inr ⟨h0, hf⟩) hT (nr_of_bd hB) hi hk hn hx hc hp))
theorem nr_84 {post : St1 → Prop} {J : Int32 → Int32 → Int32 → Int32 → Int32 → Int32 → (Nat → Int32) → (Nat → Int32) → (Nat → Int32) → (Nat → Int32) → (Nat → Int32) → (Nat → Int32) → (Nat → Int32) → (Nat → Int32) → (Nat → Int32) → (Nat → Int32) → (Nat → Int32) → (Nat → Int32) → Prop}
    (k n x c i : Nat) (hz : ¬ (pp i = k ∧ nr_f (pw i) = n)) (hT : nr_tv ow nm pp pw) (hB : nr_bd C) (hi : i < 10) (hk : k < 6) (hn : n < 3) (hx : x < 6) (hc : c ≤ 1048576)
    (hp : J (nI (i + 1)) pr cs gs os sv (nr_v ow) (nr_v nm) (nr_v pp) (nr_v pw) a5 a6 a7 (nr_v (nr_s3 st ow nm pp pw k n x c i (nr_s2 st ow nm pp pw k n x c i (nr_s1 ow nm pp pw k n x c i C)))) st a10 a11 a12) : wX_spread_84 post J (nI k) (nI n) (nI x) (nI c) (nI i) (nI (pw i)) pr cs gs os sv (nr_v ow) (nr_v nm) (nr_v pp) (nr_v pw) a5 a6 a7 (nr_v C) st a10 a11 a12 := by
  unfold wX_spread_84
  exact nr_85 k n x c i (Or.inl ⟨rfl, hz⟩) hT hB hi hk hn hx hc hp
theorem nr_spread {post : St1 → Prop} (r : Nat) (hr : r < 108) (hT : nr_tv ow nm pp pw) (hB : nr_bd C)
    (hp : post (pr, cs, gs, os, sv, (nr_v ow), (nr_v nm), (nr_v pp), (nr_v pw), a5, a6, a7, (nr_v (nr_sp cs st ow nm pp pw (r / 18) (r % 18 / 6) (r % 6) (C r) C)), st, a10, a11, a12)) : wpX_spread post (pr, cs, gs, os, sv, (nr_v ow), (nr_v nm), (nr_v pp), (nr_v pw), a5, a6, a7, (nr_v C), st, a10, a11, a12) (nI r) := by
  have hc := hB r
  have e1 : nI r / 18 = nI (r / 18) := pk_div (a := r) (d := 18) (by omega) (by omega) (by omega)
  have e2 : (nI r - nI r / 18 * 18) / 6 = nI (r % 18 / 6) := by
    show (nI r - nI r / nI 18 * nI 18) / nI 6 = _
    rw [pk_rem (by omega) (by omega) (by omega), pk_div (by omega) (by omega) (by omega)]
  have e3 : nI r - nI r / 6 * 6 = nI (r % 6) := pk_rem (a := r) (d := 6) (by omega) (by omega) (by omega)
  have hk : r / 18 < 6 := by omega
  have hn : r % 18 / 6 < 3 := by omega
  have hx : r % 6 < 6 := by omega
  generalize r / 18 = k at *
  generalize r % 18 / 6 = n at *
  generalize r % 6 = x at *
  unfold wpX_spread
  refine ⟨by decide, nm_r e1 ⟨by decide, by decide, nm_r e2 ⟨by decide, nm_r e3 ⟨pk_in r 108 hr, nm_r (e' := nI (C r)) (by rw [nI_clamp (show r < 2 ^ 31 by omega)]; rfl) ?_⟩⟩⟩⟩
  generalize C r = c at *
  refine pk_loop (fun m i D => wX_spread_30 post (nI k) (nI n) (nI x) (nI c) m (nI i) pr cs gs os sv (nr_v ow) (nr_v nm) (nr_v pp) (nr_v pw) a5 a6 a7 (nr_v D) st a10 a11 a12) (fun i D => D = nr_it (nr_sg cs st ow nm pp pw k n x c) C i ∧ nr_bd D) 10 0 C (by omega) ⟨rfl, hB⟩ ?_ ?_
  · intro m D h
    refine pk_le 10 10 (fun _ => ?_) (fun z => absurd z (by omega))
    rw [h.1]
    exact hp
  · intro m i D hi h hw
    obtain ⟨h1, h2, h3, h4⟩ := hT i hi
    have hf := nr_fl h4
    obtain ⟨hE, hD⟩ := h
    have hN : nr_it (nr_sg cs st ow nm pp pw k n x c) C (i + 1) = nr_sg cs st ow nm pp pw k n x c i D := by rw [hE]; rfl
    refine pk_le 10 i (fun z => absurd z (by omega)) (fun _ => ⟨pk_in i 10 hi, nm_r (e' := nI (pw i)) (by rw [nI_clamp (show i < 2 ^ 31 by omega)]; rfl) ?_⟩)
    refine nr_hc hi (fun hh => br_f (by decide) (pk_le (pw i) 0 (fun z => nm_r (nI_1 i) (hw D ⟨?_, hD⟩)) (fun z => ⟨pk_in i 10 hi, ?_⟩))) (fun hh => br_t rfl (nm_r (nI_1 i) (hw D ⟨?_, hD⟩)))
    · rw [hN]
      unfold nr_sg
      rw [if_neg (by omega)]
    · rw [nI_clamp (show i < 2 ^ 31 by omega)]
      have hG : nr_sg cs st ow nm pp pw k n x c i D = nr_s3 st ow nm pp pw k n x c i (nr_s2 st ow nm pp pw k n x c i (nr_s1 ow nm pp pw k n x c i D)) := if_pos ⟨hh, z⟩
      have hW := hw _ ⟨hG.symm.trans hN.symm, nr_s3_bd (nr_s2_bd (nr_s1_bd hD))⟩
      refine pk_eq (pp i) k (fun z1 => nr_fn (w := pw i) z h4 (pk_eq (nr_f (pw i)) n (fun z2 => nr_85 k n x c i (Or.inr ⟨by decide, z1, z2⟩) hT hD hi hk hn hx hc hW) (fun z2 => nr_84 k n x c i (fun q => z2 q.2) hT hD hi hk hn hx hc hW))) (fun z1 => nr_84 k n x c i (fun q => z1 q.1) hT hD hi hk hn hx hc hW)
    · rw [hN]
      unfold nr_sg
      rw [if_neg (by rw [hh]; intro q; exact absurd q.1 (by decide))]
theorem nr_cheap {post : Int32 → Prop} {a1 a2 a3 a4 : Nat → Int32} (hB : nr_bd C) (hp : post (nr_en (nr_mn (nr_fr st) C 108))) : wpX_cheapest post (pr, cs, gs, os, sv, a1, a2, a3, a4, a5, a6, a7, (nr_v C), st, a10, a11, a12) := by
  unfold wpX_cheapest
  refine pk_loop (σ := Unit) (fun n i _ => wX_cheapest_4 post pr cs gs os sv a1 a2 a3 a4 a5 a6 a7 (nr_v C) st a10 a11 a12 n (nr_en (nr_mn (nr_fr st) C i)) (nI i)) (fun _ _ => True) 108 0 () (by omega) trivial ?_ ?_
  · intro n _ _
    exact pk_le 108 108 (fun _ => hp) (fun z => absurd z (by omega))
  · intro n i _ hi _ hw
    have t : wX_cheapest_4 post pr cs gs os sv a1 a2 a3 a4 a5 a6 a7 (nr_v C) st a10 a11 a12 n (nr_en (nr_mn (nr_fr st) C (i + 1))) (nI (i + 1)) := hw () trivial
    show wX_cheapest_4 post pr cs gs os sv a1 a2 a3 a4 a5 a6 a7 (nr_v C) st a10 a11 a12 (n + 1) (nr_en (nr_mn (nr_fr st) C i)) (nI i)
    have hb := hB i
    cases hm : nr_mn (nr_fr st) C i with
    | none =>
      rw [nr_mn_n hm] at t
      refine pk_le 108 i (fun z => absurd z (by omega)) (fun _ => ⟨pk_in i 108 hi, ?_⟩)
      rw [nI_clamp (show i < 2 ^ 31 by omega)]
      refine br_c (fun z => ⟨pk_in i 108 hi, pk_le 1048576 (C i) (fun z2 => nm_r (nI_1 i) ?_) (fun z2 => br_t (show (-1 : Int32) < 0 by decide) (nm_r (nI_1 i) ?_))⟩) (fun z => nm_r (nI_1 i) ?_)
      · rw [if_neg (by omega)] at t
        exact t
      · rw [if_pos ⟨decide_eq_true z, z2⟩] at t
        exact t
      · rw [if_neg (fun q => z (of_decide_eq_true q.1))] at t
        exact t
    | some b =>
      have hb1 := nr_mn_some hm
      have hb2 := hB b
      rw [nr_mn_s hm] at t
      refine pk_le 108 i (fun z => absurd z (by omega)) (fun _ => ⟨pk_in i 108 hi, ?_⟩)
      rw [nI_clamp (show i < 2 ^ 31 by omega)]
      refine br_c (fun z => ⟨pk_in i 108 hi, pk_le 1048576 (C i) (fun z2 => nm_r (nI_1 i) ?_) (fun z2 => br_f (nI_pos (show b < 2 ^ 31 by omega)) ⟨pk_in i 108 hi, pk_in b 108 (by omega), pk_le (C b) (C i) (fun z3 => nm_r (nI_1 i) ?_) (fun z3 => nm_r (nI_1 i) ?_) (congrArg (nr_v C) (nI_clamp (show b < 2 ^ 31 by omega)))⟩)⟩) (fun z => nm_r (nI_1 i) ?_)
      · rw [if_neg (by omega)] at t
        exact t
      · rw [if_neg (by omega)] at t
        exact t
      · rw [if_pos ⟨decide_eq_true z, z2, z3⟩] at t
        exact t
      · rw [if_neg (fun q => z (of_decide_eq_true q.1))] at t
        exact t
theorem nr_87 {post : St1 → Prop} {s0 : (Nat → Nat) × (Nat → Int32)} (hT : nr_tv ow nm pp pw) (hB : nr_bd s0.1)
    (hp : post (pr, cs, gs, os, sv, (nr_v ow), (nr_v nm), (nr_v pp), (nr_v pw), a5, a6, a7, (nr_v (nr_it (fun _ => nr_rd cs ow nm pp pw) s0 108).1), (nr_it (fun _ => nr_rd cs ow nm pp pw) s0 108).2, a10, a11, a12)) : ∃ n, wX_solve_87 post n 0 pr cs gs os sv (nr_v ow) (nr_v nm) (nr_v pp) (nr_v pw) a5 a6 a7 (nr_v s0.1) s0.2 a10 a11 a12 := by
  refine pk_loop (fun m i (s : (Nat → Nat) × (Nat → Int32)) => wX_solve_87 post m (nI i) pr cs gs os sv (nr_v ow) (nr_v nm) (nr_v pp) (nr_v pw) a5 a6 a7 (nr_v s.1) s.2 a10 a11 a12) (fun i s => s = nr_it (fun _ => nr_rd cs ow nm pp pw) s0 i ∧ nr_bd s.1) 108 0 s0 (by omega) ⟨rfl, hB⟩ ?_ ?_
  · intro m s h
    refine pk_le 108 108 (fun _ => ?_) (fun z => absurd z (by omega))
    rw [h.1]
    exact hp
  · intro m i s hi h hw
    obtain ⟨hE, hD⟩ := h
    have hN : nr_it (fun _ => nr_rd cs ow nm pp pw) s0 (i + 1) = nr_rd cs ow nm pp pw s := by rw [hE]; rfl
    refine pk_le 108 i (fun z => absurd z (by omega)) (fun _ => nr_cheap (C := s.1) hD ?_)
    cases hm : nr_mn (nr_fr s.2) s.1 108 with
    | none =>
      have hs : nr_rd cs ow nm pp pw s = s := by
        unfold nr_rd
        rw [hm]
      have hL : nr_it (fun _ => nr_rd cs ow nm pp pw) s0 108 = s := by
        have := nr_stop (f := fun _ => nr_rd cs ow nm pp pw) (s := s0) i (fun j => by rw [← hE]; exact hs) (108 - i)
        rw [show i + (108 - i) = 108 by omega] at this
        rw [this, hE]
      rw [hL] at hp
      exact br_f (by decide) hp
    | some r =>
      have hr := nr_mn_some hm
      have hs : nr_rd cs ow nm pp pw s = (nr_sp cs (upd s.2 r 1) ow nm pp pw (r / 18) (r % 18 / 6) (r % 6) (s.1 r) s.1, upd s.2 r 1) := by
        unfold nr_rd
        rw [hm]
      refine br_t (nI_pos' (show r < 2 ^ 31 by omega)) ⟨pk_in r 108 hr.1, nm_r (e' := upd s.2 r 1) (by rw [show (nr_en (some r)).toNatClampNeg = r from nI_clamp (show r < 2 ^ 31 by omega)]) ?_⟩
      exact nr_spread (C := s.1) r hr.1 hT hD (nm_r (nI_1 i) (hw (nr_sp cs (upd s.2 r 1) ow nm pp pw (r / 18) (r % 18 / 6) (r % 6) (s.1 r) s.1, upd s.2 r 1) ⟨hs.symm.trans hN.symm, nr_sp_bd hD⟩))
theorem nr_44 {post : St1 → Prop} (hT : nr_tv ow nm pp pw)
    (hp : post (pr, cs, gs, os, sv, (nr_v ow), (nr_v nm), (nr_v pp), (nr_v pw), a5, a6, a7, (nr_v (nr_sol cs ow nm pp pw).1), (nr_sol cs ow nm pp pw).2, a10, a11, a12)) : ∃ n, wX_solve_44 post n 0 pr cs gs os sv (nr_v ow) (nr_v nm) (nr_v pp) (nr_v pw) a5 a6 a7 (nr_v nr_C0) (fun _ => 0) a10 a11 a12 := by
  refine pk_loop (fun m i D => wX_solve_44 post m (nI i) pr cs gs os sv (nr_v ow) (nr_v nm) (nr_v pp) (nr_v pw) a5 a6 a7 (nr_v D) (fun _ => 0) a10 a11 a12) (fun i D => D = nr_it (nr_i0 cs ow nm pp pw) nr_C0 i ∧ nr_bd D) 10 0 nr_C0 (by omega) ⟨rfl, nr_C0_bd⟩ ?_ ?_
  · intro m D h
    refine pk_le 10 10 (fun _ => ?_) (fun z => absurd z (by omega))
    rw [h.1]
    exact nr_87 (s0 := (nr_ini cs ow nm pp pw, fun _ => 0)) hT (nr_ini_bd cs ow nm pp pw) hp
  · intro m i D hi h hw
    obtain ⟨hE, hD⟩ := h
    obtain ⟨h1, h2, h3, h4⟩ := hT i hi
    have hN : nr_it (nr_i0 cs ow nm pp pw) nr_C0 (i + 1) = nr_i0 cs ow nm pp pw i D := by rw [hE]; rfl
    refine pk_le 10 i (fun z => absurd z (by omega)) (fun _ => nr_hc hi (fun hh => br_f (by decide) ⟨pk_in i 10 hi, ?_⟩) (fun hh => br_t rfl (nm_r (nI_1 i) (hw D ⟨?_, hD⟩))))
    · rw [nI_clamp (show i < 2 ^ 31 by omega)]
      refine pk_eq (pw i) 0 (fun z => ⟨pk_in i 10 hi, nr_offer i (pp i) 1 rfl rfl hT hD hi h3 (by omega) (nm_r (nI_1 i) (hw _ ⟨?_, nr_of_bd hD⟩))⟩) (fun z => nm_r (nI_1 i) (hw D ⟨?_, hD⟩))
      · rw [hN]
        unfold nr_i0
        rw [if_pos ⟨hh, z⟩]
      · rw [hN]
        unfold nr_i0
        rw [if_neg (fun q => z q.2)]
    · rw [hN]
      unfold nr_i0
      rw [if_neg (by rw [hh]; intro q; exact absurd q.1 (by decide))]
theorem nr_solve {post : St1 → Prop} {a8 : Nat → Int32} (hT : nr_tv ow nm pp pw) (hk : nr_ok cs ow nm pp pw sv a8 st)
    (hp : post (pr, cs, gs, os, 1, (nr_v ow), (nr_v nm), (nr_v pp), (nr_v pw), a5, a6, a7, (nr_v (nr_sol cs ow nm pp pw).1), (nr_sol cs ow nm pp pw).2, a10, a11, a12)) : wpX_solve post (pr, cs, gs, os, sv, (nr_v ow), (nr_v nm), (nr_v pp), (nr_v pw), a5, a6, a7, a8, st, a10, a11, a12) := by
  unfold wpX_solve
  rcases hk with ⟨h0, hz⟩ | ⟨h1, h8, h9⟩
  · refine br_t h0 ?_
    refine pk_loop (fun m i (s : (Nat → Int32) × (Nat → Int32)) => wX_solve_15 post pr cs gs os 1 m (nI i) (nr_v ow) (nr_v nm) (nr_v pp) (nr_v pw) a5 a6 a7 s.1 s.2 a10 a11 a12) (fun i s => (∀ j, j < i → s.1 j = nI 1048576 ∧ s.2 j = 0) ∧ ∀ j, 108 ≤ j → s.1 j = 0 ∧ s.2 j = 0) 108 0 (a8, st) (by omega) ⟨fun j hj => absurd hj (by omega), hz⟩ ?_ ?_
    · intro m s h
      refine pk_le 108 108 (fun _ => ?_) (fun z => absurd z (by omega))
      have e8 : s.1 = nr_v nr_C0 := by
        funext j
        by_cases hj : j < 108
        · rw [(h.1 j hj).1]
          show nI 1048576 = nI (if j < 108 then 1048576 else 0)
          rw [if_pos hj]
        · rw [(h.2 j (by omega)).1]
          show 0 = nI (if j < 108 then 1048576 else 0)
          rw [if_neg hj]
          rfl
      have e9 : s.2 = fun _ => 0 := by
        funext j
        by_cases hj : j < 108
        · exact (h.1 j hj).2
        · exact (h.2 j (by omega)).2
      rw [e8, e9]
      exact nr_44 hT hp
    · intro m i s hi h hw
      refine pk_le 108 i (fun z => absurd z (by omega)) (fun _ => ⟨pk_in i 108 hi, nm_r (e' := upd s.1 i 1048576) (by rw [nI_clamp (show i < 2 ^ 31 by omega)]) ⟨pk_in i 108 hi, nm_r (e' := upd s.2 i 0) (by rw [nI_clamp (show i < 2 ^ 31 by omega)]) (nm_r (nI_1 i) (hw (upd s.1 i 1048576, upd s.2 i 0) ?_))⟩⟩)
      refine ⟨fun j hj => ?_, fun j hj => ?_⟩
      · show upd s.1 i 1048576 j = nI 1048576 ∧ upd s.2 i 0 j = 0
        by_cases e : j = i
        · rw [e, pk_us, pk_us]
          exact ⟨rfl, rfl⟩
        · rw [pk_un e, pk_un e]
          exact h.1 j (by omega)
      · show upd s.1 i 1048576 j = 0 ∧ upd s.2 i 0 j = 0
        rw [pk_un (show j ≠ i by omega), pk_un (show j ≠ i by omega)]
        exact h.2 j hj
  · generalize nr_sol cs ow nm pp pw = S at hp h8 h9
    subst h1 h8 h9
    exact br_f (by decide) hp
end
end
section
/-- what certificate i says of x at cost c, out of settled cells alone -/
def nr_src (pp pw : Nat → Nat) (C : Nat → Nat) (S : Nat → Int32) (i x c : Nat) : Prop :=
  (pw i = 0 ∧ pp i = x ∧ c = 1) ∨
  (1 ≤ pw i ∧ pw i ≤ 3 ∧ S (nr_c (pp i) (nr_f (pw i)) x) ≠ 0 ∧ c = C (nr_c (pp i) (nr_f (pw i)) x) + 1) ∨
  (3 < pw i ∧ ∃ q, q < 6 ∧ S (nr_c (pp i) (nr_f (pw i)) q) ≠ 0 ∧ S (nr_c q (nr_s (pw i)) x) ≠ 0 ∧ c = C (nr_c (pp i) (nr_f (pw i)) q) + C (nr_c q (nr_s (pw i)) x) + 1)
def nr_der (cs : Int32) (ow nm pp pw : Nat → Nat) (C : Nat → Nat) (S : Nat → Int32) (l c : Nat) : Prop :=
  ∃ i x, i < 10 ∧ nr_h cs i = true ∧ x < 6 ∧ l = nr_c (ow i) (nm i) x ∧ nr_src pp pw C S i x c
/-- in a spread: D, out of C, S settled, offers above m -/
def nr_K (cs : Int32) (ow nm pp pw : Nat → Nat) (C : Nat → Nat) (S : Nat → Int32) (m : Nat) (D : Nat → Nat) : Prop :=
  (∀ j, 108 ≤ j → D j = C j) ∧ (∀ j, j < 108 → D j = 1048576 ∨ (1 ≤ D j ∧ D j ≤ 999 ∧ nr_der cs ow nm pp pw C S j (D j))) ∧ (∀ j, S j ≠ 0 → D j = C j) ∧ (∀ j, D j ≤ C j) ∧ (∀ j, j < 108 → S j = 0 → m ≤ D j)
/-- all that certificate i says has been offered -/
def nr_cz (ow nm pp pw : Nat → Nat) (C : Nat → Nat) (S : Nat → Int32) (i : Nat) (D : Nat → Nat) : Prop :=
  ∀ x c, x < 6 → c ≤ 999 → nr_src pp pw C S i x c → D (nr_c (ow i) (nm i) x) ≤ c
/-- between rounds -/
def nr_J (cs : Int32) (ow nm pp pw : Nat → Nat) (C : Nat → Nat) (S : Nat → Int32) : Prop :=
  (∀ j, 108 ≤ j → C j = 0 ∧ S j = 0) ∧ (∀ j, j < 108 → C j = 1048576 ∨ (1 ≤ C j ∧ C j ≤ 999 ∧ nr_der cs ow nm pp pw C S j (C j))) ∧ (∀ j, S j ≠ 0 → C j ≤ 999) ∧ (∀ a b, b < 108 → S a ≠ 0 → S b = 0 → C a ≤ C b) ∧ (∀ i, i < 10 → nr_h cs i = true → nr_cz ow nm pp pw C S i C)
section
variable {cs : Int32} {ow nm pp pw C D : Nat → Nat} {S : Nat → Int32}
theorem nr_src_cg {i x c : Nat} (h : ∀ j, S j ≠ 0 → C j = D j) (hs : nr_src pp pw C S i x c) : nr_src pp pw D S i x c := by
  rcases hs with hs | ⟨h1, h2, h3, h4⟩ | ⟨h1, q, hq, h2, h3, h4⟩
  · exact Or.inl hs
  · exact Or.inr (Or.inl ⟨h1, h2, h3, by rw [← h _ h3]; exact h4⟩)
  · exact Or.inr (Or.inr ⟨h1, q, hq, h2, h3, by rw [← h _ h2, ← h _ h3]; exact h4⟩)
theorem nr_src_mo {S' : Nat → Int32} {i x c : Nat} (h : ∀ j, S j ≠ 0 → S' j ≠ 0) (hs : nr_src pp pw C S i x c) : nr_src pp pw C S' i x c := by
  rcases hs with hs | ⟨h1, h2, h3, h4⟩ | ⟨h1, q, hq, h2, h3, h4⟩
  · exact Or.inl hs
  · exact Or.inr (Or.inl ⟨h1, h2, h _ h3, h4⟩)
  · exact Or.inr (Or.inr ⟨h1, q, hq, h _ h2, h _ h3, h4⟩)
theorem nr_der_cg {l c : Nat} (h : ∀ j, S j ≠ 0 → C j = D j) (hs : nr_der cs ow nm pp pw C S l c) : nr_der cs ow nm pp pw D S l c := by
  obtain ⟨i, x, h1, h2, h3, h4, h5⟩ := hs
  exact ⟨i, x, h1, h2, h3, h4, nr_src_cg h h5⟩
theorem nr_der_mo {S' : Nat → Int32} {l c : Nat} (h : ∀ j, S j ≠ 0 → S' j ≠ 0) (hs : nr_der cs ow nm pp pw C S l c) : nr_der cs ow nm pp pw C S' l c := by
  obtain ⟨i, x, h1, h2, h3, h4, h5⟩ := hs
  exact ⟨i, x, h1, h2, h3, h4, nr_src_mo h h5⟩
theorem nr_cz_le {D' : Nat → Nat} {i : Nat} (h : ∀ j, D' j ≤ D j) (hz : nr_cz ow nm pp pw C S i D) : nr_cz ow nm pp pw C S i D' :=
  fun x c hx hc hs => Nat.le_trans (h _) (hz x c hx hc hs)
theorem nr_K_of {m i x c : Nat} (hT : nr_tv ow nm pp pw) (hm : ∀ j, S j ≠ 0 → C j ≤ m) (hK : nr_K cs ow nm pp pw C S m D) (hi : i < 10) (hh : nr_h cs i = true) (hx : x < 6) (hs : nr_src pp pw C S i x c) (hc : m < c) :
    nr_K cs ow nm pp pw C S m (nr_of D (nr_c (ow i) (nm i) x) c) := by
  obtain ⟨k1, k2, k3, k4, k5⟩ := hK
  have hl : nr_c (ow i) (nm i) x < 108 := nr_cl (hT i hi).1 (hT i hi).2.1 hx
  have hd : nr_der cs ow nm pp pw C S (nr_c (ow i) (nm i) x) c := ⟨i, x, hi, hh, hx, rfl, hs⟩
  generalize nr_c (ow i) (nm i) x = l at hl hd
  refine ⟨fun j hj => ?_, fun j hj => ?_, fun j hj => ?_, fun j => Nat.le_trans (nr_of_le D l c j) (k4 j), fun j hj hS => ?_⟩
  · rw [nr_of_ne (show j ≠ l by omega)]
    exact k1 j hj
  · by_cases e : j = l
    · subst e
      rcases nr_of_v D j c with e1 | ⟨e1, e2, e3⟩
      · rw [e1]
        exact k2 j hj
      · rw [e1]
        exact Or.inr ⟨by omega, e2, hd⟩
    · rw [nr_of_ne e]
      exact k2 j hj
  · by_cases e : j = l
    · subst e
      rcases nr_of_v D j c with e1 | ⟨e1, e2, e3⟩
      · rw [e1]
        exact k3 j hj
      · have g1 := k3 j hj
        have g2 := hm j hj
        omega
    · rw [nr_of_ne e]
      exact k3 j hj
  · by_cases e : j = l
    · subst e
      rcases nr_of_v D j c with e1 | ⟨e1, e2, e3⟩
      · rw [e1]
        exact k5 j hj hS
      · omega
    · rw [nr_of_ne e]
      exact k5 j hj hS
theorem nr_k1 {k n x r i : Nat} (hT : nr_tv ow nm pp pw) (hm : ∀ j, S j ≠ 0 → C j ≤ C r) (hS : S r ≠ 0) (hkr : nr_c k n x = r) (hx : x < 6) (hi : i < 10) (hh : nr_h cs i = true) (hw : 1 ≤ pw i) (hK : nr_K cs ow nm pp pw C S (C r) D) :
    nr_K cs ow nm pp pw C S (C r) (nr_s1 ow nm pp pw k n x (C r) i D) ∧ (∀ j, nr_s1 ow nm pp pw k n x (C r) i D j ≤ D j) ∧ (pw i ≤ 3 → pp i = k → nr_f (pw i) = n → C r + 1 ≤ 999 → nr_s1 ow nm pp pw k n x (C r) i D (nr_c (ow i) (nm i) x) ≤ C r + 1) := by
  unfold nr_s1
  split
  · rename_i h
    have e : nr_c (pp i) (nr_f (pw i)) x = r := by rw [h.2.1, h.2.2, hkr]
    refine ⟨nr_K_of hT hm hK hi hh hx (Or.inr (Or.inl ⟨hw, h.1, by rw [e]; exact hS, by rw [e]⟩)) (by omega), fun j => nr_of_le _ _ _ j, fun _ _ _ hc => nr_of_at _ hc⟩
  · rename_i h
    exact ⟨hK, fun j => Nat.le_refl _, fun h1 h2 h3 => absurd ⟨h1, h2, h3⟩ h⟩
theorem nr_k2 {k n x r i : Nat} (hT : nr_tv ow nm pp pw) (hm : ∀ j, S j ≠ 0 → C j ≤ C r) (hS : S r ≠ 0) (hkr : nr_c k n x = r) (hx : x < 6) (hi : i < 10) (hh : nr_h cs i = true) (hK : nr_K cs ow nm pp pw C S (C r) D) :
    nr_K cs ow nm pp pw C S (C r) (nr_s2 S ow nm pp pw k n x (C r) i D) ∧ (∀ j, nr_s2 S ow nm pp pw k n x (C r) i D j ≤ D j) ∧ (3 < pw i → pp i = k → nr_f (pw i) = n → ∀ y, y < 6 → S (nr_c x (nr_s (pw i)) y) ≠ 0 → C r + C (nr_c x (nr_s (pw i)) y) + 1 ≤ 999 → nr_s2 S ow nm pp pw k n x (C r) i D (nr_c (ow i) (nm i) y) ≤ C r + C (nr_c x (nr_s (pw i)) y) + 1) := by
  unfold nr_s2
  split
  · rename_i h
    have e : nr_c (pp i) (nr_f (pw i)) x = r := by rw [h.2.1, h.2.2, hkr]
    have main := nr_ind (f := nr_ps S ow nm pw i x (C r)) (s := D) (fun t D' => nr_K cs ow nm pp pw C S (C r) D' ∧ (∀ j, D' j ≤ D j) ∧ ∀ y, y < t → S (nr_c x (nr_s (pw i)) y) ≠ 0 → C r + C (nr_c x (nr_s (pw i)) y) + 1 ≤ 999 → D' (nr_c (ow i) (nm i) y) ≤ C r + C (nr_c x (nr_s (pw i)) y) + 1) ⟨hK, fun j => Nat.le_refl _, fun y hy => absurd hy (by omega)⟩ 6 (by
      intro y D' hy ⟨g1, g2, g3⟩
      unfold nr_ps
      split
      · rename_i h0
        refine ⟨g1, g2, fun z hz hSz hc => ?_⟩
        by_cases ez : z = y
        · rw [ez] at hSz
          exact absurd h0 hSz
        · exact g3 z (by omega) hSz hc
      · rename_i h0
        rw [g1.2.2.1 _ h0]
        refine ⟨nr_K_of hT hm g1 hi hh hy (Or.inr (Or.inr ⟨h.1, x, hx, by rw [e]; exact hS, h0, by rw [e]⟩)) (by omega), fun j => Nat.le_trans (nr_of_le _ _ _ j) (g2 j), fun z hz hSz hc => ?_⟩
        by_cases ez : z = y
        · rw [ez] at hc ⊢
          exact nr_of_at _ hc
        · exact Nat.le_trans (nr_of_le _ _ _ _) (g3 z (by omega) hSz hc))
    exact ⟨main.1, main.2.1, fun _ _ _ => main.2.2⟩
  · rename_i h
    exact ⟨hK, fun j => Nat.le_refl _, fun h1 h2 h3 => absurd ⟨h1, h2, h3⟩ h⟩
theorem nr_k3 {k n x r i : Nat} (hT : nr_tv ow nm pp pw) (hm : ∀ j, S j ≠ 0 → C j ≤ C r) (hS : S r ≠ 0) (hkr : nr_c k n x = r) (hk : k < 6) (hx : x < 6) (hi : i < 10) (hh : nr_h cs i = true) (hK : nr_K cs ow nm pp pw C S (C r) D) :
    nr_K cs ow nm pp pw C S (C r) (nr_s3 S ow nm pp pw k n x (C r) i D) ∧ (∀ j, nr_s3 S ow nm pp pw k n x (C r) i D j ≤ D j) ∧ (3 < pw i → nr_s (pw i) = n → S (nr_c (pp i) (nr_f (pw i)) k) ≠ 0 → C r + C (nr_c (pp i) (nr_f (pw i)) k) + 1 ≤ 999 → nr_s3 S ow nm pp pw k n x (C r) i D (nr_c (ow i) (nm i) x) ≤ C r + C (nr_c (pp i) (nr_f (pw i)) k) + 1) := by
  unfold nr_s3
  split
  · rename_i h
    have e : nr_c k (nr_s (pw i)) x = r := by rw [h.2, hkr]
    unfold nr_cf
    split
    · rename_i h0
      exact ⟨hK, fun j => Nat.le_refl _, fun _ _ h3 => absurd h0 h3⟩
    · rename_i h0
      rw [hK.2.2.1 _ h0]
      exact ⟨nr_K_of hT hm hK hi hh hx (Or.inr (Or.inr ⟨h.1, k, hk, h0, by rw [e]; exact hS, by rw [e]; omega⟩)) (by omega), fun j => nr_of_le _ _ _ j, fun _ _ _ hc => nr_of_at _ hc⟩
  · rename_i h
    exact ⟨hK, fun j => Nat.le_refl _, fun h1 h2 => absurd ⟨h1, h2⟩ h⟩
theorem nr_J_ini (hT : nr_tv ow nm pp pw) : nr_J cs ow nm pp pw (nr_ini cs ow nm pp pw) (fun _ => 0) := by
  have hm : ∀ j, (fun _ => (0 : Int32)) j ≠ (0 : Int32) → nr_C0 j ≤ 0 := fun j h => absurd rfl h
  have main := nr_ind (f := nr_i0 cs ow nm pp pw) (s := nr_C0) (fun t D => nr_K cs ow nm pp pw nr_C0 (fun _ => 0) 0 D ∧ ∀ i, i < t → nr_h cs i = true → nr_cz ow nm pp pw nr_C0 (fun _ => 0) i D)
    ⟨⟨fun j _ => rfl, fun j hj => Or.inl (if_pos hj), fun j _ => rfl, fun j => Nat.le_refl _, fun j _ _ => Nat.zero_le _⟩, fun i hi => absurd hi (by omega)⟩ 10 (by
    intro i D hi ⟨g1, g2⟩
    unfold nr_i0
    split
    · rename_i h
      refine ⟨nr_K_of hT hm g1 hi h.1 (hT i hi).2.2.1 (Or.inl ⟨h.2, rfl, rfl⟩) (by omega), fun j hj hh => ?_⟩
      by_cases e : j = i
      · rw [e]
        intro x c hx hc hs
        rcases hs with ⟨s1, s2, s3⟩ | ⟨s1, s2, s3, s4⟩ | ⟨s1, q, hq, s2, s3, s4⟩
        · rw [← s2, s3]
          exact nr_of_at _ (by omega)
        · exact absurd rfl s3
        · exact absurd rfl s3
      · exact nr_cz_le (fun l => nr_of_le _ _ _ l) (g2 j (by omega) hh)
    · rename_i h
      refine ⟨g1, fun j hj hh => ?_⟩
      by_cases e : j = i
      · rw [e] at hh ⊢
        intro x c hx hc hs
        rcases hs with ⟨s1, s2, s3⟩ | ⟨s1, s2, s3, s4⟩ | ⟨s1, q, hq, s2, s3, s4⟩
        · exact absurd ⟨hh, s1⟩ h
        · exact absurd rfl s3
        · exact absurd rfl s3
      · exact g2 j (by omega) hh)
  obtain ⟨⟨k1, k2, k3, k4, k5⟩, hz⟩ := main
  refine ⟨fun j hj => ⟨?_, rfl⟩, fun j hj => ?_, fun j h => absurd rfl h, fun a b _ h => absurd rfl h, fun i hi hh x c hx hc hs => ?_⟩
  · exact (k1 j hj).trans (if_neg (by omega))
  · rcases k2 j hj with g | ⟨g1, g2, g3⟩
    · exact Or.inl g
    · exact Or.inr ⟨g1, g2, nr_der_cg (fun l hl => (k3 l hl).symm) g3⟩
  · exact hz i hi hh x c hx hc (nr_src_cg (fun l hl => k3 l hl) hs)
theorem nr_J_sp {r : Nat} (hT : nr_tv ow nm pp pw) (hJ : nr_J cs ow nm pp pw C S) (hr : r < 108) (hS : S r = 0) (hC : C r < 1048576) (hmin : ∀ j, j < 108 → S j = 0 → C r ≤ C j) :
    nr_J cs ow nm pp pw (nr_sp cs (upd S r 1) ow nm pp pw (r / 18) (r % 18 / 6) (r % 6) (C r) C) (upd S r 1) := by
  obtain ⟨j1, j2, j3, j4, j5⟩ := hJ
  have f1 : ∀ j, upd S r 1 j ≠ 0 → j = r ∨ S j ≠ 0 := fun j h => by
    by_cases e : j = r
    · exact Or.inl e
    · rw [pk_un e] at h
      exact Or.inr h
  have f2 : upd S r 1 r ≠ 0 := by
    rw [pk_us]
    decide
  have f3 : ∀ j, S j ≠ 0 → upd S r 1 j ≠ 0 := fun j h => by
    by_cases e : j = r
    · rw [e]
      exact f2
    · rw [pk_un e]
      exact h
  have f4 : ∀ j, upd S r 1 j = 0 → S j = 0 := fun j h => Decidable.byContradiction (fun q => f3 j q h)
  have hm : ∀ j, upd S r 1 j ≠ 0 → C j ≤ C r := fun j h => by
    rcases f1 j h with e | e
    · rw [e]
      exact Nat.le_refl _
    · exact j4 j r hr e hS
  generalize upd S r 1 = S' at *
  have hkr := nr_cr r
  have hk : r / 18 < 6 := by omega
  have hn : r % 18 / 6 < 3 := by omega
  have hx : r % 6 < 6 := by omega
  have hcj : ∀ k n x, n < 3 → x < 6 → nr_c k n x = r → k = r / 18 ∧ n = r % 18 / 6 ∧ x = r % 6 := fun k n x h1 h2 h3 => nr_cj h1 h2 h3
  generalize r / 18 = k at *
  generalize r % 18 / 6 = n at *
  generalize r % 6 = x at *
  have hK0 : nr_K cs ow nm pp pw C S' (C r) C := by
    refine ⟨fun j _ => rfl, fun j hj => ?_, fun j _ => rfl, fun j => Nat.le_refl _, fun j hj h => hmin j hj (f4 j h)⟩
    rcases j2 j hj with g | ⟨g1, g2, g3⟩
    · exact Or.inl g
    · exact Or.inr ⟨g1, g2, nr_der_mo f3 g3⟩
  have main := nr_ind (f := nr_sg cs S' ow nm pp pw k n x (C r)) (s := C) (fun t D => nr_K cs ow nm pp pw C S' (C r) D ∧ ∀ i, i < t → nr_h cs i = true → nr_cz ow nm pp pw C S' i D) ⟨hK0, fun i hi => absurd hi (by omega)⟩ 10 (by
    intro i D hi ⟨g1, g2⟩
    obtain ⟨t1, t2, t3, t4⟩ := hT i hi
    unfold nr_sg
    split
    · rename_i h
      obtain ⟨hh, hw⟩ := h
      obtain ⟨p1, p2, p3⟩ := nr_k1 hT hm f2 hkr hx hi hh hw g1
      obtain ⟨q1, q2, q3⟩ := nr_k2 hT hm f2 hkr hx hi hh p1
      obtain ⟨u1, u2, u3⟩ := nr_k3 hT hm f2 hkr hk hx hi hh q1
      generalize nr_s1 ow nm pp pw k n x (C r) i D = D1 at *
      generalize nr_s2 S' ow nm pp pw k n x (C r) i D1 = D2 at *
      generalize nr_s3 S' ow nm pp pw k n x (C r) i D2 = D3 at *
      have hle : ∀ j, D3 j ≤ D j := fun j => Nat.le_trans (u2 j) (Nat.le_trans (q2 j) (p2 j))
      refine ⟨u1, fun j hj hhj => ?_⟩
      by_cases e : j = i
      · subst e
        intro x' c hx' hc hs
        have old : nr_src pp pw C S j x' c → D3 (nr_c (ow j) (nm j) x') ≤ c := fun hs0 => Nat.le_trans (u1.2.2.2.1 _) (j5 j hi hh x' c hx' hc hs0)
        rcases hs with ⟨s1, s2, s3⟩ | ⟨s1, s2, s3, s4⟩ | ⟨s1, q, hq, s2, s3, s4⟩
        · exact old (Or.inl ⟨s1, s2, s3⟩)
        · rcases f1 _ s3 with e | s3'
          · obtain ⟨e1, e2, e3⟩ := hcj _ _ _ (nr_fl t4) hx' e
            rw [e] at s4
            rw [s4, e3]
            exact Nat.le_trans (u2 _) (Nat.le_trans (q2 _) (p3 s2 e1 e2 (by omega)))
          · exact old (Or.inr (Or.inl ⟨s1, s2, s3', s4⟩))
        · rcases f1 _ s2 with e | s2'
          · obtain ⟨e1, e2, e3⟩ := hcj _ _ _ (nr_fl t4) hq e
            rw [e] at s4
            rw [e3] at s3 s4
            rw [s4]
            exact Nat.le_trans (u2 _) (q3 s1 e1 e2 x' hx' s3 (by omega))
          · rcases f1 _ s3 with e | s3'
            · obtain ⟨e1, e2, e3⟩ := hcj _ _ _ (nr_sl _) hx' e
              rw [e] at s4
              rw [e1] at s2 s4
              rw [e3, s4]
              exact Nat.le_trans (u3 s1 e2 s2 (by omega)) (by omega)
            · exact old (Or.inr (Or.inr ⟨s1, q, hq, s2', s3', s4⟩))
      · exact nr_cz_le hle (g2 j (by omega) hhj)
    · rename_i h
      refine ⟨g1, fun j hj hhj => ?_⟩
      by_cases e : j = i
      · subst e
        intro x' c hx' hc hs
        rcases hs with ⟨s1, s2, s3⟩ | ⟨s1, s2, s3, s4⟩ | ⟨s1, q, hq, s2, s3, s4⟩
        · exact Nat.le_trans (g1.2.2.2.1 _) (j5 j hi hhj x' c hx' hc (Or.inl ⟨s1, s2, s3⟩))
        · exact absurd ⟨hhj, s1⟩ h
        · exact absurd ⟨hhj, by omega⟩ h
      · exact g2 j (by omega) hhj)
  have hCr : C r ≤ 999 := by
    rcases j2 r hr with g | ⟨_, g, _⟩
    · omega
    · exact g
  show nr_J cs ow nm pp pw (nr_it (nr_sg cs S' ow nm pp pw k n x (C r)) C 10) S'
  generalize nr_it (nr_sg cs S' ow nm pp pw k n x (C r)) C 10 = D at *
  obtain ⟨⟨k1, k2, k3, k4, k5⟩, hz⟩ := main
  refine ⟨fun j hj => ⟨(k1 j hj).trans (j1 j hj).1, ?_⟩, fun j hj => ?_, fun j h => ?_, fun a b hb ha h0 => ?_, fun i hi hh x' c hx' hc hs => ?_⟩
  · refine Decidable.byContradiction (fun q => ?_)
    rcases f1 j q with e | e
    · omega
    · exact e (j1 j hj).2
  · rcases k2 j hj with g | ⟨g1, g2, g3⟩
    · exact Or.inl g
    · exact Or.inr ⟨g1, g2, nr_der_cg (fun l hl => (k3 l hl).symm) g3⟩
  · have := hm j h
    rw [k3 j h]
    omega
  · have g1 := hm a ha
    have g2 := k5 b hb h0
    rw [k3 a ha]
    omega
  · exact hz i hi hh x' c hx' hc (nr_src_cg (fun l hl => k3 l hl) hs)
end
/-- how many are free -/
def nr_n (S : Nat → Int32) : Nat → Nat
  | 0 => 0
  | n + 1 => nr_n S n + (if S n = 0 then 1 else 0)
theorem nr_n_ge {S : Nat → Int32} {r : Nat} : ∀ t, t ≤ r → nr_n (upd S r 1) t = nr_n S t
  | 0, _ => rfl
  | t + 1, h => by
    show nr_n (upd S r 1) t + (if upd S r 1 t = 0 then 1 else 0) = nr_n S t + (if S t = 0 then 1 else 0)
    rw [nr_n_ge t (by omega), pk_un (show t ≠ r by omega)]
theorem nr_n_up {S : Nat → Int32} {r : Nat} (hS : S r = 0) : ∀ t, r < t → nr_n (upd S r 1) t + 1 = nr_n S t
  | 0, h => absurd h (by omega)
  | t + 1, h => by
    show nr_n (upd S r 1) t + (if upd S r 1 t = 0 then 1 else 0) + 1 = nr_n S t + (if S t = 0 then 1 else 0)
    by_cases e : t = r
    · rw [nr_n_ge t (by omega), e, pk_us, if_pos hS, if_neg (by decide)]
    · have := nr_n_up hS t (by omega)
      rw [pk_un e]
      omega
theorem nr_n_0 : ∀ t, nr_n (fun _ => 0) t = t
  | 0 => rfl
  | t + 1 => by
    show nr_n (fun _ => 0) t + (if (0 : Int32) = 0 then 1 else 0) = t + 1
    rw [nr_n_0 t, if_pos rfl]
theorem nr_n_z {S : Nat → Int32} : ∀ t, nr_n S t = 0 → ∀ j, j < t → S j ≠ 0
  | 0, _, j, hj => absurd hj (by omega)
  | t + 1, h, j, hj => by
    have h' : nr_n S t + (if S t = 0 then 1 else 0) = 0 := h
    by_cases e : j = t
    · intro q
      rw [e] at q
      rw [if_pos q] at h'
      omega
    · exact nr_n_z t (by omega) j (by omega)
theorem nr_fin {cs : Int32} {ow nm pp pw : Nat → Nat} (hT : nr_tv ow nm pp pw) : nr_J cs ow nm pp pw (nr_sol cs ow nm pp pw).1 (nr_sol cs ow nm pp pw).2 ∧ ∀ j, j < 108 → (nr_sol cs ow nm pp pw).2 j = 0 → ¬ (nr_sol cs ow nm pp pw).1 j < 1048576 := by
  have main := nr_ind (f := fun _ => nr_rd cs ow nm pp pw) (s := (nr_ini cs ow nm pp pw, fun _ => 0)) (fun i s => nr_J cs ow nm pp pw s.1 s.2 ∧ (nr_mn (nr_fr s.2) s.1 108 = none ∨ nr_n s.2 108 + i = 108)) ⟨nr_J_ini hT, Or.inr (nr_n_0 108)⟩ 108 (by
    intro i s hi ⟨g1, g2⟩
    show nr_J cs ow nm pp pw (nr_rd cs ow nm pp pw s).1 (nr_rd cs ow nm pp pw s).2 ∧ (nr_mn (nr_fr (nr_rd cs ow nm pp pw s).2) (nr_rd cs ow nm pp pw s).1 108 = none ∨ nr_n (nr_rd cs ow nm pp pw s).2 108 + (i + 1) = 108)
    cases hmn : nr_mn (nr_fr s.2) s.1 108 with
    | none =>
      have e : nr_rd cs ow nm pp pw s = s := by
        unfold nr_rd
        rw [hmn]
      rw [e]
      exact ⟨g1, Or.inl hmn⟩
    | some r =>
      have e : nr_rd cs ow nm pp pw s = (nr_sp cs (upd s.2 r 1) ow nm pp pw (r / 18) (r % 18 / 6) (r % 6) (s.1 r) s.1, upd s.2 r 1) := by
        unfold nr_rd
        rw [hmn]
      rw [e]
      obtain ⟨m1, m2, m3, m4⟩ := nr_mn_some hmn
      have hS : s.2 r = 0 := of_decide_eq_true m2
      refine ⟨nr_J_sp hT g1 m1 hS m3 (fun j hj h0 => m4 j hj (decide_eq_true h0)), Or.inr ?_⟩
      rcases g2 with g | g
      · rw [hmn] at g
        exact absurd g (Option.some_ne_none r)
      · have := nr_n_up hS 108 m1
        show nr_n (upd s.2 r 1) 108 + (i + 1) = 108
        omega)
  obtain ⟨g1, g2⟩ := main
  refine ⟨g1, fun j hj h0 => ?_⟩
  have g3 : nr_mn (nr_fr (nr_sol cs ow nm pp pw).2) (nr_sol cs ow nm pp pw).1 108 = none := by
    rcases g2 with g | g
    · exact g
    · exact absurd h0 (nr_n_z 108 (by
        have g' : nr_n (nr_sol cs ow nm pp pw).2 108 + 108 = 108 := g
        omega) j hj)
  exact nr_mn_none g3 j hj (decide_eq_true h0)
/-- the least cost at which a subject denotes x -/
def nr_dq (C : Nat → Nat) (p w x q l : Nat) : Nat :=
  if C (nr_c p (nr_f w) q) + C (nr_c q (nr_s w) x) ≤ 999 ∧ C (nr_c p (nr_f w) q) + C (nr_c q (nr_s w) x) < l then C (nr_c p (nr_f w) q) + C (nr_c q (nr_s w) x) else l
def nr_dn (C : Nat → Nat) (p w x : Nat) : Nat :=
  if w = 0 then (if p = x then 0 else 1048576) else if w ≤ 3 then C (nr_c p (nr_f w) x) else nr_it (nr_dq C p w x) 1048576 6
theorem nr_dq_p (C : Nat → Nat) (p w x : Nat) (t : Nat) : (nr_it (nr_dq C p w x) 1048576 t = 1048576 ∨ ∃ q, q < t ∧ nr_it (nr_dq C p w x) 1048576 t = C (nr_c p (nr_f w) q) + C (nr_c q (nr_s w) x) ∧ C (nr_c p (nr_f w) q) + C (nr_c q (nr_s w) x) ≤ 999) ∧ ∀ q, q < t → C (nr_c p (nr_f w) q) + C (nr_c q (nr_s w) x) ≤ 999 → nr_it (nr_dq C p w x) 1048576 t ≤ C (nr_c p (nr_f w) q) + C (nr_c q (nr_s w) x) := by
  refine nr_ind (f := nr_dq C p w x) (s := 1048576) (fun t l => (l = 1048576 ∨ ∃ q, q < t ∧ l = C (nr_c p (nr_f w) q) + C (nr_c q (nr_s w) x) ∧ C (nr_c p (nr_f w) q) + C (nr_c q (nr_s w) x) ≤ 999) ∧ ∀ q, q < t → C (nr_c p (nr_f w) q) + C (nr_c q (nr_s w) x) ≤ 999 → l ≤ C (nr_c p (nr_f w) q) + C (nr_c q (nr_s w) x)) ⟨Or.inl rfl, fun q hq => absurd hq (by omega)⟩ t ?_
  intro i l _ ⟨g1, g2⟩
  unfold nr_dq
  split
  · rename_i h
    refine ⟨Or.inr ⟨i, by omega, rfl, h.1⟩, fun q hq hc => ?_⟩
    by_cases e : q = i
    · rw [e]
      exact Nat.le_refl _
    · have := g2 q (by omega) hc
      omega
  · rename_i h
    refine ⟨?_, fun q hq hc => ?_⟩
    · rcases g1 with g | ⟨q, hq, g⟩
      · exact Or.inl g
      · exact Or.inr ⟨q, by omega, g⟩
    · by_cases e : q = i
      · rw [e] at hc ⊢
        omega
      · exact g2 q (by omega) hc
theorem nr_dn_le {C : Nat → Nat} (hB : nr_bd C) (p w x : Nat) : nr_dn C p w x ≤ 1048576 := by
  unfold nr_dn
  split
  · split <;> omega
  · split
    · exact hB _
    · rcases (nr_dq_p C p w x 6).1 with g | ⟨q, _, g1, g2⟩
      · omega
      · omega
/-- every membership has its certificate -/
theorem nr_wit {cs : Int32} {ow nm pp pw : Nat → Nat} (hT : nr_tv ow nm pp pw) {k n x : Nat} (hk : k < 6) (hn : n < 3) (hx : x < 6) (hc : (nr_sol cs ow nm pp pw).1 (nr_c k n x) < 1048576) :
    1 ≤ (nr_sol cs ow nm pp pw).1 (nr_c k n x) ∧ ∃ i, i < 10 ∧ nr_h cs i = true ∧ ow i = k ∧ nm i = n ∧ nr_dn (nr_sol cs ow nm pp pw).1 (pp i) (pw i) x + 1 = (nr_sol cs ow nm pp pw).1 (nr_c k n x) := by
  obtain ⟨⟨j1, j2, j3, j4, j5⟩, hF⟩ := nr_fin (cs := cs) hT
  generalize (nr_sol cs ow nm pp pw).1 = C at *
  generalize (nr_sol cs ow nm pp pw).2 = S at *
  rcases j2 _ (nr_cl hk hn hx) with g | ⟨g1, g2, i, x', hi, hh, hx', el, hs⟩
  · omega
  · obtain ⟨t1, t2, t3, t4⟩ := hT i hi
    obtain ⟨a1, a2, a3⟩ := nr_cj t2 hx' el.symm
    obtain ⟨b1, b2, b3⟩ := nr_cj hn hx (r := nr_c k n x) rfl
    have ek : ow i = k := a1.trans b1.symm
    have en : nm i = n := a2.trans b2.symm
    have ex : x' = x := a3.trans b3.symm
    rw [ex] at hs
    refine ⟨g1, i, hi, hh, ek, en, ?_⟩
    unfold nr_dn
    rcases hs with ⟨s1, s2, s3⟩ | ⟨s1, s2, s3, s4⟩ | ⟨s1, q, hq, s2, s3, s4⟩
    · rw [if_pos s1, if_pos s2, s3]
    · rw [if_neg (by omega), if_pos s2, s4]
    · rw [if_neg (by omega), if_neg (by omega)]
      obtain ⟨d1, d2⟩ := nr_dq_p C (pp i) (pw i) x 6
      have d3 := d2 q hq (by omega)
      rcases d1 with d | ⟨q', hq', d4, d5⟩
      · omega
      · have e1 : S (nr_c (pp i) (nr_f (pw i)) q') ≠ 0 := fun z => hF _ (nr_cl t3 (nr_fl t4) hq') z (by omega)
        have e2 : S (nr_c q' (nr_s (pw i)) x) ≠ 0 := fun z => hF _ (nr_cl hq' (nr_sl _) hx) z (by omega)
        have d6 := j5 i hi hh x (nr_it (nr_dq C (pp i) (pw i) x) 1048576 6 + 1) hx (by omega) (Or.inr (Or.inr ⟨s1, q', hq', e1, e2, by rw [d4]⟩))
        rw [ek, en] at d6
        omega
end
section
/-- the trust arrays are 0 off their range -/
def nr_z (a10 a11 : Nat → Int32) : Prop := ∀ j, 6 ≤ j → a10 j = 0 ∧ a11 j = 0
/-- the object over one table of certificates and grants -/
def nr_W (cs gs os : Int32) (ow nm pp pw : Nat → Nat) (a5 : Nat → Int32) (gp gw : Nat → Nat) (u : St1) : Prop :=
  ∃ (sv : Int32) (a8 a9 a10 a11 a12 : Nat → Int32), u = (4, cs, gs, os, sv, (nr_v ow), (nr_v nm), (nr_v pp), (nr_v pw), a5, (nr_v gp), (nr_v gw), a8, a9, a10, a11, a12) ∧ nr_ok cs ow nm pp pw sv a8 a9 ∧ nr_z a10 a11
/-- the same, solved -/
def nr_V (cs gs os : Int32) (ow nm pp pw : Nat → Nat) (a5 : Nat → Int32) (gp gw : Nat → Nat) (u : St1) : Prop :=
  ∃ (C : Nat → Nat) (S a10 a11 a12 : Nat → Int32), (nr_sol cs ow nm pp pw) = (C, S) ∧ u = (4, cs, gs, os, 1, (nr_v ow), (nr_v nm), (nr_v pp), (nr_v pw), a5, (nr_v gp), (nr_v gw), (nr_v C), S, a10, a11, a12) ∧ nr_z a10 a11
theorem nr_eta {α β : Type} (p : α × β) : p = (p.1, p.2) := rfl
section
variable {pr cs gs os sv : Int32} {a1 a2 a3 a4 a5 a6 a7 a8 a9 a10 a11 a12 : Nat → Int32} {C : Nat → Nat}
theorem nr_ip {post : Int32 → Prop} {k : Nat} (hk : k < 4) (h : post 1) : wpX_isPrincipal post (4, cs, gs, os, sv, a1, a2, a3, a4, a5, a6, a7, a8, a9, a10, a11, a12) (nI k) := by
  unfold wpX_isPrincipal
  exact pk_lt k 0 (fun z => absurd z (by omega)) (fun _ => pk_le 4 k (fun z => absurd z (by omega)) (fun _ => h))
theorem nr_in {post : Int32 → Prop} {u : St2} {k : Nat} (hk : k < 3) (h : post 1) : wpX_isName post u (nI k) := by
  unfold wpX_isName
  exact pk_lt k 0 (fun z => absurd z (by omega)) (fun _ => pk_le 3 k (fun z => absurd z (by omega)) (fun _ => h))
theorem nr_ih {post : Int32 → Prop} {u : St2} {k : Nat} (hk : k ≤ 12) (h : post 1) : wpX_isPath post u (nI k) := by
  unfold wpX_isPath
  exact pk_lt k 0 (fun z => absurd z (by omega)) (fun _ => pk_lt 12 k (fun z => absurd z (by omega)) (fun _ => h))
theorem nr_bs_s (b : Nat → Bool) (x : Nat) : nr_bs b (x + 1) = if b x = true then nr_bs b x ||| ((1 : Int32) <<< (nI x &&& 31)) else nr_bs b x := rfl
def nr_mb (C : Nat → Nat) (k n : Nat) : Int32 := nr_bs (fun x => decide (C (nr_c k n x) < 1048576)) 6
theorem nr_ms {post : Int32 → Prop} {k n : Nat} (hk : k < 6) (hn : n < 3) (hB : nr_bd C) (hp : post (nr_mb C k n)) : wpX_memberSet post (pr, cs, gs, os, sv, a1, a2, a3, a4, a5, a6, a7, (nr_v C), a9, a10, a11, a12) (nI k) (nI n) := by
  unfold wpX_memberSet
  refine pk_loop (σ := Unit) (fun m x _ => wX_memberSet_5 post (nI k) (nI n) pr cs gs os sv a1 a2 a3 a4 a5 a6 a7 (nr_v C) a9 a10 a11 a12 m (nr_bs (fun x => decide (C (nr_c k n x) < 1048576)) x) (nI x)) (fun _ _ => True) 6 0 () (by omega) trivial ?_ ?_
  · intro m _ _
    exact pk_le 6 6 (fun _ => hp) (fun z => absurd z (by omega))
  · intro m x _ hx _ hw
    have t : wX_memberSet_5 post (nI k) (nI n) pr cs gs os sv a1 a2 a3 a4 a5 a6 a7 (nr_v C) a9 a10 a11 a12 m (nr_bs (fun x => decide (C (nr_c k n x) < 1048576)) (x + 1)) (nI (x + 1)) := hw () trivial
    have hb := hB (nr_c k n x)
    have hl := nr_cl hk hn hx
    rw [nr_bs_s] at t
    refine pk_le 6 x (fun z => absurd z (by omega)) (fun _ => ⟨pk_in (nr_c k n x) 108 hl (nr_ci k n x), ?_⟩)
    rw [nr_ci, nI_clamp (show nr_c k n x < 2 ^ 31 by omega)]
    refine pk_le 1048576 (C (nr_c k n x)) (fun z => nm_r (nI_1 x) ?_) (fun z => nm_e (nm_r (nI_1 x) ?_))
    · rw [if_neg (by rw [decide_eq_true_iff]; omega)] at t
      exact t
    · rw [if_pos (decide_eq_true z)] at t
      exact t
theorem nr_dc {post : Int32 → Prop} {p w x : Nat} (hB : nr_bd C) (hp : p < 6) (hw : w ≤ 12) (hx : x < 6) (h : post (nI (nr_dn C p w x))) : wpX_denoteCost post (pr, cs, gs, os, sv, a1, a2, a3, a4, a5, a6, a7, (nr_v C), a9, a10, a11, a12) (nI p) (nI w) (nI x) := by
  have hf := nr_fl hw
  have hs := nr_sl w
  unfold wpX_denoteCost
  unfold nr_dn at h
  refine pk_eq w 0 (fun z => pk_eq p x (fun z2 => ?_) (fun z2 => ?_)) (fun z => nr_fn (by omega) hw (pk_lt 3 w (fun z2 => nr_sn (by omega) hw ?_) (fun z2 => ⟨pk_in (nr_c p (nr_f w) x) 108 (nr_cl hp hf hx) (nr_ci p (nr_f w) x), ?_⟩)))
  · rw [if_pos z, if_pos z2] at h
    exact h
  · rw [if_pos z, if_neg z2] at h
    exact h
  · rw [if_neg z, if_neg (by omega)] at h
    refine pk_loop (σ := Unit) (fun m q _ => wX_denoteCost_58 post (nI p) (nI x) (nI (nr_f w)) (nI (nr_s w)) pr cs gs os sv a1 a2 a3 a4 a5 a6 a7 (nr_v C) a9 a10 a11 a12 m (nI (nr_it (nr_dq C p w x) 1048576 q)) (nI q)) (fun _ _ => True) 6 0 () (by omega) trivial ?_ ?_
    · intro m _ _
      exact pk_le 6 6 (fun _ => h) (fun z => absurd z (by omega))
    · intro m q _ hq _ hw2
      have t : wX_denoteCost_58 post (nI p) (nI x) (nI (nr_f w)) (nI (nr_s w)) pr cs gs os sv a1 a2 a3 a4 a5 a6 a7 (nr_v C) a9 a10 a11 a12 m (nI (nr_dq C p w x q (nr_it (nr_dq C p w x) 1048576 q))) (nI (q + 1)) := hw2 () trivial
      have hl1 := nr_cl hp hf hq
      have hl2 := nr_cl hq hs hx
      have hb1 := hB (nr_c p (nr_f w) q)
      have hb2 := hB (nr_c q (nr_s w) x)
      have hL : nr_it (nr_dq C p w x) 1048576 q ≤ 1048576 := by
        rcases (nr_dq_p C p w x q).1 with g | ⟨q, _, g1, g2⟩
        · omega
        · omega
      show wX_denoteCost_58 post (nI p) (nI x) (nI (nr_f w)) (nI (nr_s w)) pr cs gs os sv a1 a2 a3 a4 a5 a6 a7 (nr_v C) a9 a10 a11 a12 (m + 1) (nI (nr_it (nr_dq C p w x) 1048576 q)) (nI q)
      generalize nr_it (nr_dq C p w x) 1048576 q = l at *
      unfold nr_dq at t
      refine pk_le 6 q (fun z => absurd z (by omega)) (fun _ => ⟨pk_in (nr_c p (nr_f w) q) 108 hl1 (nr_ci _ _ _), pk_in (nr_c q (nr_s w) x) 108 hl2 (nr_ci _ _ _), nm_r (e' := nI (C (nr_c p (nr_f w) q) + C (nr_c q (nr_s w) x))) (by rw [nr_ci, nI_clamp (show nr_c p (nr_f w) q < 2 ^ 31 by omega), nr_ci, nI_clamp (show nr_c q (nr_s w) x < 2 ^ 31 by omega)]; exact nI_add _ _) ?_⟩)
      refine pk_lt 999 (C (nr_c p (nr_f w) q) + C (nr_c q (nr_s w) x)) (fun z => nm_r (nI_1 q) ?_) (fun z => pk_le l (C (nr_c p (nr_f w) q) + C (nr_c q (nr_s w) x)) (fun z2 => nm_r (nI_1 q) ?_) (fun z2 => nm_r (nI_1 q) ?_))
      · rw [if_neg (by omega)] at t
        exact t
      · rw [if_neg (by omega)] at t
        exact t
      · rw [if_pos ⟨z, z2⟩] at t
        exact t
  · rw [if_neg z, if_pos z2] at h
    have hl := nr_cl hp hf hx
    rw [nr_ci, nI_clamp (show nr_c p (nr_f w) x < 2 ^ 31 by omega)]
    exact h
end
def nr_e (c : Nat) : Int32 := if c < 1048576 then nI c else -1
section
variable {cs gs os : Int32} {ow nm pp pw gp gw : Nat → Nat} {a5 : Nat → Int32}
theorem nr_VW {u : St1} (h : nr_V cs gs os ow nm pp pw a5 gp gw u) : nr_W cs gs os ow nm pp pw a5 gp gw u := by
  obtain ⟨C, S, a10, a11, a12, hs, e, hz⟩ := h
  exact ⟨1, _, _, a10, a11, a12, e, Or.inr ⟨rfl, by rw [hs], by rw [hs]⟩, hz⟩
theorem nr_Vi {a10 a11 a12 : Nat → Int32} (hz : nr_z a10 a11) : nr_V cs gs os ow nm pp pw a5 gp gw (4, cs, gs, os, 1, (nr_v ow), (nr_v nm), (nr_v pp), (nr_v pw), a5, (nr_v gp), (nr_v gw), (nr_v (nr_sol cs ow nm pp pw).1), (nr_sol cs ow nm pp pw).2, a10, a11, a12) := ⟨(nr_sol cs ow nm pp pw).1, (nr_sol cs ow nm pp pw).2, a10, a11, a12, nr_eta _, rfl, hz⟩
theorem nr_members {post : Int32 → St1 → Prop} {u : St1} {k n : Nat} (hT : nr_tv ow nm pp pw) (hk : k < 4) (hn : n < 3) (hW : nr_W cs gs os ow nm pp pw a5 gp gw u) (hp : ∀ u', nr_V cs gs os ow nm pp pw a5 gp gw u' → post (nr_mb (nr_sol cs ow nm pp pw).1 k n) u') : wpX_members post u (nI k) (nI n) := by
  obtain ⟨sv, a8, a9, a10, a11, a12, rfl, hk8, hz⟩ := hW
  have hB := nr_sol_bd cs ow nm pp pw
  have hV := hp _ (nr_Vi (a12 := a12) hz)
  unfold wpX_members
  refine nr_ip hk (br_f (by decide) (nr_in hn (br_f (by decide) (nr_solve hT hk8 ?_))))
  exact nr_ms (by omega) hn hB hV
theorem nr_cost {post : Int32 → St1 → Prop} {u : St1} {k n x : Nat} (hT : nr_tv ow nm pp pw) (hk : k < 4) (hn : n < 3) (hx : x < 4) (hW : nr_W cs gs os ow nm pp pw a5 gp gw u) (hp : ∀ u', nr_V cs gs os ow nm pp pw a5 gp gw u' → post (nr_e ((nr_sol cs ow nm pp pw).1 (nr_c k n x))) u') : wpX_cost post u (nI k) (nI n) (nI x) := by
  obtain ⟨sv, a8, a9, a10, a11, a12, rfl, hk8, hz⟩ := hW
  have hB := nr_sol_bd cs ow nm pp pw
  have hV := hp _ (nr_Vi (a12 := a12) hz)
  have hl : nr_c k n x < 108 := nr_cl (by omega) hn (by omega)
  unfold wpX_cost
  refine nr_ip hk (br_f (by decide) (nr_in hn (br_f (by decide) (nr_ip hx (br_f (by decide) (nr_solve hT hk8 ?_))))))
  generalize (nr_sol cs ow nm pp pw) = SL at hV hB ⊢
  have hb := hB (nr_c k n x)
  unfold nr_e at hV
  refine ⟨pk_in (nr_c k n x) 108 hl (nr_ci k n x), nm_r (e' := nI (SL.1 (nr_c k n x))) (by rw [nr_ci, nI_clamp (show nr_c k n x < 2 ^ 31 by omega)]; rfl) (pk_le 1048576 (SL.1 (nr_c k n x)) (fun z => ?_) (fun z => ?_))⟩
  · rw [if_neg (by omega)] at hV
    exact hV
  · rw [if_pos z] at hV
    exact hV
theorem nr_denotes {post : Int32 → St1 → Prop} {u : St1} {p w x : Nat} (hT : nr_tv ow nm pp pw) (hp : p < 4) (hw : w ≤ 12) (hx : x < 4) (hW : nr_W cs gs os ow nm pp pw a5 gp gw u) (h : ∀ u', nr_V cs gs os ow nm pp pw a5 gp gw u' → post (nr_e (nr_dn (nr_sol cs ow nm pp pw).1 p w x)) u') : wpX_denotes post u (nI p) (nI w) (nI x) := by
  obtain ⟨sv, a8, a9, a10, a11, a12, rfl, hk8, hz⟩ := hW
  have hB := nr_sol_bd cs ow nm pp pw
  have hV := h _ (nr_Vi (a12 := a12) hz)
  unfold wpX_denotes
  refine nr_ip hp (br_f (by decide) (nr_ih hw (br_f (by decide) (nr_ip hx (br_f (by decide) (nr_solve hT hk8 ?_))))))
  generalize (nr_sol cs ow nm pp pw) = SL at hV hB ⊢
  have hb := nr_dn_le hB p w x
  unfold nr_e at hV
  refine nr_dc hB (by omega) hw (by omega) (pk_le 1048576 (nr_dn SL.1 p w x) (fun z => ?_) (fun z => ?_))
  · rw [if_neg (by omega)] at hV
    exact hV
  · rw [if_pos z] at hV
    exact hV
theorem nr_witness {post : Int32 → St1 → Prop} {u : St1} {k n x : Nat} (hT : nr_tv ow nm pp pw) (hk : k < 4) (hn : n < 3) (hx : x < 4) (hW : nr_W cs gs os ow nm pp pw a5 gp gw u)
    (h0 : ¬ (nr_sol cs ow nm pp pw).1 (nr_c k n x) < 1048576 → ∀ u', nr_V cs gs os ow nm pp pw a5 gp gw u' → post (-1) u') (h1 : (nr_sol cs ow nm pp pw).1 (nr_c k n x) < 1048576 → ∀ i u', i < 10 → nr_h cs i = true → nr_V cs gs os ow nm pp pw a5 gp gw u' → post (nI i) u') : wpX_witness post u (nI k) (nI n) (nI x) := by
  have hW' := hW
  obtain ⟨sv, a8, a9, a10, a11, a12, rfl, hk8, hz⟩ := hW
  unfold wpX_witness
  refine nr_cost hT hk hn hx hW' (fun u' hV => ?_)
  have hV' := hV
  obtain ⟨C, S, b10, b11, b12, hs, rfl, hz'⟩ := hV
  have e1 : (nr_sol cs ow nm pp pw).1 = C := by rw [hs]
  have hB := nr_sol_bd cs ow nm pp pw
  have hw0 := nr_wit (cs := cs) hT (show k < 6 by omega) hn (show x < 6 by omega)
  rw [e1] at h0 h1 hB hw0 ⊢
  unfold nr_e
  by_cases hc : C (nr_c k n x) < 1048576
  · rw [if_pos hc]
    obtain ⟨hc1, hw⟩ := hw0 hc
    have hq := fun i hi hh => h1 hc i _ hi hh hV'
    clear h0 h1 hV' hW' hk8 hw0
    refine br_t (nI_pos' (show C (nr_c k n x) < 2 ^ 31 by omega)) ?_
    generalize C (nr_c k n x) = c at *
    refine pk_loop (σ := Unit) (fun m i _ => wX_witness_19 post (nI k) (nI n) (nI x) (nI c) 4 cs gs os 1 (nr_v ow) (nr_v nm) (nr_v pp) (nr_v pw) a5 (nr_v gp) (nr_v gw) (nr_v C) S b10 b11 b12 m (nI i)) (fun i _ => ∃ j, i ≤ j ∧ j < 10 ∧ nr_h cs j = true ∧ ow j = k ∧ nm j = n ∧ nr_dn C (pp j) (pw j) x + 1 = c) 10 0 () (by omega) ?_ ?_ ?_
    · obtain ⟨j, hj⟩ := hw
      exact ⟨j, by omega, hj⟩
    · intro m _ h
      obtain ⟨j, hj1, hj2, _⟩ := h
      omega
    · intro m i _ hi h hw2
      obtain ⟨j, j1, j2, j3, j4, j5, j6⟩ := h
      obtain ⟨t1, t2, t3, t4⟩ := hT i hi
      have hd := nr_dn_le hB (pp i) (pw i) x
      have nxt : (¬ (nr_h cs i = true ∧ ow i = k ∧ nm i = n ∧ nr_dn C (pp i) (pw i) x + 1 = c)) → ∃ j, i + 1 ≤ j ∧ j < 10 ∧ nr_h cs j = true ∧ ow j = k ∧ nm j = n ∧ nr_dn C (pp j) (pw j) x + 1 = c := by
        intro hne
        by_cases e : j = i
        · rw [e] at j3 j4 j5 j6
          exact absurd ⟨j3, j4, j5, j6⟩ hne
        · exact ⟨j, by omega, j2, j3, j4, j5, j6⟩
      refine pk_le 10 i (fun z => absurd z (by omega)) (fun _ => nr_hc hi (fun hh => br_f (by decide) ⟨pk_in i 10 hi, ?_⟩) (fun hh => br_t rfl (nm_r (nI_1 i) (hw2 () (nxt (fun q => absurd (hh.symm.trans q.1) (by decide)))))))
      rw [nI_clamp (show i < 2 ^ 31 by omega)]
      refine pk_eq (ow i) k (fun z1 => ⟨pk_in i 10 hi, pk_eq (nm i) n (fun z2 => ⟨pk_in i 10 hi, pk_in i 10 hi, ?_⟩) (fun z2 => nm_r (nI_1 i) (hw2 () (nxt (fun q => z2 q.2.2.1))))⟩) (fun z1 => nm_r (nI_1 i) (hw2 () (nxt (fun q => z1 q.2.1))))
      refine nr_dc hB t3 t4 (by omega) (pk_eq (nr_dn C (pp i) (pw i) x) (c - 1) (fun z3 => hq i hi hh) (fun z3 => nm_r (nI_1 i) (hw2 () (nxt (fun q => z3 (by omega))))) rfl (pk_sub hc1))
  · rw [if_neg hc]
    exact br_f (by decide) (h0 hc _ hV')
theorem nr_name {post : Int32 → St1 → Prop} {u : St1} {k n : Nat} (hT : nr_tv ow nm pp pw) (hk : k < 4) (hn : n < 3) (hW : nr_W cs gs os ow nm pp pw a5 gp gw u) (hp : ∀ u', nr_V cs gs os ow nm pp pw a5 gp gw u' → post 1 u') : wpL_name post u (nI k) (nI n) := by
  have hW' := hW
  obtain ⟨sv, a8, a9, a10, a11, a12, rfl, hk8, hz⟩ := hW
  unfold wpL_name
  refine nr_members hT hk hn hW' (fun u' hV => ?_)
  have hV' := hV
  obtain ⟨Cb, Sb, b10, b11, b12, hsb, rfl, hz'⟩ := hV
  unfold wpX_certificates
  refine pk_loop (fun m x (u : St1) => wL_name_16 post (nI k) (nI n) (nr_mb (nr_sol cs ow nm pp pw).1 k n) cs m (nI x) u.1 u.2.1 u.2.2.1 u.2.2.2.1 u.2.2.2.2.1 u.2.2.2.2.2.1 u.2.2.2.2.2.2.1 u.2.2.2.2.2.2.2.1 u.2.2.2.2.2.2.2.2.1 u.2.2.2.2.2.2.2.2.2.1 u.2.2.2.2.2.2.2.2.2.2.1 u.2.2.2.2.2.2.2.2.2.2.2.1 u.2.2.2.2.2.2.2.2.2.2.2.2.1 u.2.2.2.2.2.2.2.2.2.2.2.2.2.1 u.2.2.2.2.2.2.2.2.2.2.2.2.2.2.1 u.2.2.2.2.2.2.2.2.2.2.2.2.2.2.2.1 u.2.2.2.2.2.2.2.2.2.2.2.2.2.2.2.2) (fun _ u => nr_V cs gs os ow nm pp pw a5 gp gw u) 4 0 (4, cs, gs, os, 1, (nr_v ow), (nr_v nm), (nr_v pp), (nr_v pw), a5, (nr_v gp), (nr_v gw), (nr_v Cb), Sb, b10, b11, b12) (by omega) hV' ?_ ?_
  · intro m u hu
    exact pk_le 4 4 (fun _ => hp u hu) (fun z => absurd z (by omega))
  · intro m x u hx hu hw
    refine pk_le 4 x (fun z => absurd z (by omega)) (fun _ => nr_cost hT hk hn hx (nr_VW hu) (fun u1 hV1 => ?_))
    have hV1' := hV1
    obtain ⟨Cc, Sc, c10, c11, c12, hsc, rfl, hz1⟩ := hV1
    have hbit := nr_bit (fun x => decide ((nr_sol cs ow nm pp pw).1 (nr_c k n x) < 1048576)) (show x < 6 by omega)
    have hdn : nr_dn (nr_sol cs ow nm pp pw).1 k (1 + n) x = (nr_sol cs ow nm pp pw).1 (nr_c k n x) := by
      unfold nr_dn nr_f
      rw [if_neg (by omega), if_pos (by omega), if_pos (by omega), show 1 + n - 1 = n by omega]
    refine nr_witness hT hk hn hx (nr_VW hV1') (fun hc u2 hV2 => ?_) (fun hc i u2 hi hh hV2 => ?_)
    · have hV2' := hV2
      obtain ⟨Cd, Sd, d10, d11, d12, hsd, rfl, hz2⟩ := hV2
      have hb0 : ¬ ((nr_mb (nr_sol cs ow nm pp pw).1 k n >>> (nI x &&& 31)) &&& 1) = 1 := fun q => hc (of_decide_eq_true (hbit.mp q))
      refine br_f hb0 ?_
      unfold wL_name_57
      rw [show nr_e ((nr_sol cs ow nm pp pw).1 (nr_c k n x)) = -1 from if_neg hc]
      refine br_t (by decide) ?_
      unfold wL_name_68
      refine br_t rfl ?_
      rw [show (1 + nI n : Int32) = nI (1 + n) from nI_add 1 n]
      refine nr_denotes (w := 1 + n) hT hk (by omega) hx (nr_VW hV2') (fun u3 hV3 => ?_)
      have hV3' := hV3
      obtain ⟨Ce, Se, e10, e11, e12, hse, rfl, hz3⟩ := hV3
      rw [hdn, show nr_e ((nr_sol cs ow nm pp pw).1 (nr_c k n x)) = -1 from if_neg hc]
      exact br_t rfl (br_t (by decide) (nm_r (nI_1 x) (hw _ hV3')))
    · have hV2' := hV2
      obtain ⟨Cd, Sd, d10, d11, d12, hsd, rfl, hz2⟩ := hV2
      have hb1 : ((nr_mb (nr_sol cs ow nm pp pw).1 k n >>> (nI x &&& 31)) &&& 1) = 1 := hbit.mpr (decide_eq_true hc)
      have hc1 := (nr_wit hT (show k < 6 by omega) hn (show x < 6 by omega) hc).1
      have hlt : ¬ nI ((nr_sol cs ow nm pp pw).1 (nr_c k n x)) < 1 := nI_nlt (b := 1) hc1 (by omega)
      refine br_t hb1 ?_
      unfold wL_name_57
      rw [show nr_e ((nr_sol cs ow nm pp pw).1 (nr_c k n x)) = nI ((nr_sol cs ow nm pp pw).1 (nr_c k n x)) from if_pos hc]
      refine br_f hlt ?_
      unfold wL_name_68
      refine br_t rfl ?_
      rw [show (1 + nI n : Int32) = nI (1 + n) from nI_add 1 n]
      refine nr_denotes (w := 1 + n) hT hk (by omega) hx (nr_VW hV2') (fun u3 hV3 => ?_)
      have hV3' := hV3
      obtain ⟨Ce, Se, e10, e11, e12, hse, rfl, hz3⟩ := hV3
      rw [hdn, show nr_e ((nr_sol cs ow nm pp pw).1 (nr_c k n x)) = nI ((nr_sol cs ow nm pp pw).1 (nr_c k n x)) from if_pos hc]
      exact br_t rfl (br_f hlt (br_f (nI_pos (show i < 2 ^ 31 by omega)) (br_f (nr_hT hh) (nm_r (nI_1 x) (hw _ hV3')))))
end
end
section
def nr_gv (gp gw : Nat → Nat) : Prop := ∀ i, i < 6 → gp i < 6 ∧ gw i ≤ 12
/-- one principal under one grant: reach and trust -/
def nr_px (os : Int32) (C gp gw : Nat → Nat) (i so x : Nat) (s : (Nat → Nat) × (Nat → Nat)) : (Nat → Nat) × (Nat → Nat) :=
  (if nr_h os i = true then nr_of s.1 x (so + 1 + nr_dn C (gp i) (gw i) x) else s.1, nr_of s.2 x (so + 1 + nr_dn C (gp i) (gw i) x))
def nr_pg (os : Int32) (C gp gw : Nat → Nat) (i so : Nat) (s : (Nat → Nat) × (Nat → Nat)) : (Nat → Nat) × (Nat → Nat) := nr_it (nr_px os C gp gw i so) s 6
def nr_gi (gs os : Int32) (C : Nat → Nat) (a5 : Nat → Int32) (gp gw : Nat → Nat) (y i : Nat) (s : (Nat → Nat) × (Nat → Nat)) : (Nat → Nat) × (Nat → Nat) :=
  if nr_h gs i = true ∧ a5 i = nI y then nr_pg os C gp gw i (s.1 y) s else s
def nr_fb (d : Int32) : Nat → Bool := fun x => decide (((d >>> (nI x &&& 31)) &&& 1) = 0)
def nr_gr (gs os : Int32) (C : Nat → Nat) (a5 : Nat → Int32) (gp gw : Nat → Nat) (t : Int32 × (Nat → Nat) × (Nat → Nat)) : Int32 × (Nat → Nat) × (Nat → Nat) :=
  match nr_mn (nr_fb t.1) t.2.1 6 with
  | none => t
  | some y => (t.1 ||| ((1 : Int32) <<< (nI y &&& 31)), nr_it (nr_gi gs os C a5 gp gw y) t.2 6)
def nr_R0 : Nat → Nat := fun j => if j < 6 then 1048576 else 0
def nr_fg (gs os : Int32) (C : Nat → Nat) (a5 : Nat → Int32) (gp gw : Nat → Nat) (k : Nat) : Int32 × (Nat → Nat) × (Nat → Nat) := nr_it (fun _ => nr_gr gs os C a5 gp gw) (0, (nr_up nr_R0 k 0, nr_R0)) 6
def nr_T (gs os : Int32) (C : Nat → Nat) (a5 : Nat → Int32) (gp gw : Nat → Nat) (k : Nat) : Nat → Nat := (nr_fg gs os C a5 gp gw k).2.2
/-- what holds of reach and trust all along -/
def nr_q (s : (Nat → Nat) × (Nat → Nat)) : Prop := nr_bd s.1 ∧ (∀ j, 6 ≤ j → s.1 j = 0 ∧ s.2 j = 0) ∧ ∀ j, j < 6 → s.2 j = 1048576 ∨ (1 ≤ s.2 j ∧ s.2 j ≤ 999)
theorem nr_q_bd {s : (Nat → Nat) × (Nat → Nat)} (h : nr_q s) : nr_bd s.2 := by
  intro j
  by_cases hj : j < 6
  · rcases h.2.2 j hj with g | g
    · omega
    · omega
  · rw [(h.2.1 j (by omega)).2]
    omega
theorem nr_px_q {os : Int32} {C gp gw : Nat → Nat} {i so x : Nat} {s : (Nat → Nat) × (Nat → Nat)} (hx : x < 6) (h : nr_q s) : nr_q (nr_px os C gp gw i so x s) := by
  obtain ⟨h1, h2, h3⟩ := h
  have hc : 1 ≤ so + 1 + nr_dn C (gp i) (gw i) x := by omega
  unfold nr_px
  generalize so + 1 + nr_dn C (gp i) (gw i) x = c at *
  refine ⟨?_, fun j hj => ⟨?_, ?_⟩, fun j hj => ?_⟩
  · show nr_bd (if nr_h os i = true then nr_of s.1 x c else s.1)
    split
    · exact nr_of_bd h1
    · exact h1
  · show (if nr_h os i = true then nr_of s.1 x c else s.1) j = 0
    split
    · rw [nr_of_ne (show j ≠ x by omega)]
      exact (h2 j hj).1
    · exact (h2 j hj).1
  · show nr_of s.2 x c j = 0
    rw [nr_of_ne (show j ≠ x by omega)]
    exact (h2 j hj).2
  · show nr_of s.2 x c j = 1048576 ∨ (1 ≤ nr_of s.2 x c j ∧ nr_of s.2 x c j ≤ 999)
    by_cases e : j = x
    · subst e
      rcases nr_of_v s.2 j c with e1 | ⟨e1, e2, e3⟩
      · rw [e1]
        exact h3 j hj
      · rw [e1]
        exact Or.inr ⟨hc, e2⟩
    · rw [nr_of_ne e]
      exact h3 j hj
theorem nr_pg_q {os : Int32} {C gp gw : Nat → Nat} {i so : Nat} {s : (Nat → Nat) × (Nat → Nat)} (h : nr_q s) : nr_q (nr_pg os C gp gw i so s) :=
  nr_ind (fun _ s => nr_q s) h 6 (fun _ _ hx hs => nr_px_q hx hs)
theorem nr_gi_q {gs os : Int32} {C : Nat → Nat} {a5 : Nat → Int32} {gp gw : Nat → Nat} {y i : Nat} {s : (Nat → Nat) × (Nat → Nat)} (h : nr_q s) : nr_q (nr_gi gs os C a5 gp gw y i s) := by
  unfold nr_gi
  split
  · exact nr_pg_q h
  · exact h
theorem nr_gr_q {gs os : Int32} {C : Nat → Nat} {a5 : Nat → Int32} {gp gw : Nat → Nat} {t : Int32 × (Nat → Nat) × (Nat → Nat)} (h : nr_q t.2) : nr_q (nr_gr gs os C a5 gp gw t).2 := by
  unfold nr_gr
  split
  · exact h
  · exact nr_ind (fun _ s => nr_q s) h 6 (fun _ _ _ hs => nr_gi_q hs)
theorem nr_q0 {k : Nat} (hk : k < 6) : nr_q (nr_up nr_R0 k 0, nr_R0) := by
  refine ⟨fun j => ?_, fun j hj => ⟨?_, if_neg (by omega)⟩, fun j hj => Or.inl (if_pos hj)⟩
  · show nr_up nr_R0 k 0 j ≤ 1048576
    by_cases e : j = k
    · rw [e, nr_us]
      omega
    · rw [nr_un e]
      unfold nr_R0
      split <;> omega
  · show nr_up nr_R0 k 0 j = 0
    rw [nr_un (show j ≠ k by omega)]
    exact if_neg (by omega)
theorem nr_fg_q {gs os : Int32} {C : Nat → Nat} {a5 : Nat → Int32} {gp gw : Nat → Nat} {k : Nat} (hk : k < 6) : nr_q (nr_fg gs os C a5 gp gw k).2 :=
  nr_ind (fun _ (t : Int32 × (Nat → Nat) × (Nat → Nat)) => nr_q t.2) (nr_q0 hk) 6 (fun _ _ _ ht => nr_gr_q ht)
section
variable {pr cs gs os sv : Int32} {C gp gw : Nat → Nat} {a1 a2 a3 a4 a5 a6 a7 a8 a9 a10 a11 a12 : Nat → Int32}
theorem nr_g84 {post : St1 → Prop} {J : Int32 → (Nat → Int32) → (Nat → Int32) → (Nat → Int32) → (Nat → Int32) → (Nat → Int32) → (Nat → Int32) → (Nat → Int32) → (Nat → Int32) → (Nat → Int32) → (Nat → Int32) → (Nat → Int32) → (Nat → Int32) → Prop}
    {x1 x2 z : Int32} {i : Nat} {R : Nat → Nat} (x c : Nat) (hz : (z = 0 ∧ nr_h os i = false) ∨ (¬ z = 0 ∧ nr_h os i = true)) (hx : x < 6) (hc : c < 2 ^ 31) (hR : nr_bd R)
    (hp : J (nI (x + 1)) a1 a2 a3 a4 a5 a6 a7 a8 a9 (nr_v (if nr_h os i = true then nr_of R x c else R)) a11 a12) : wX_passGrant_84 post J x1 x2 z (nI x) (nI c) pr cs gs os sv a1 a2 a3 a4 a5 a6 a7 a8 a9 (nr_v R) a11 a12 := by
  have hb := hR x
  unfold wX_passGrant_84
  unfold nr_of at hp
  refine pk_lt 999 c (fun h => nm_r (nI_1 x) ?_) (fun h => ?_)
  · rw [if_neg (show ¬ (c ≤ 999 ∧ c < R x) by omega), ite_self] at hp
    exact hp
  · rcases hz with ⟨h0, hh⟩ | ⟨h0, hh⟩
    · rw [if_neg (by rw [hh]; decide)] at hp
      exact br_t h0 (nm_r (nI_1 x) hp)
    · rw [if_pos hh] at hp
      refine br_f h0 ⟨pk_in x 6 hx, ?_⟩
      rw [nI_clamp (show x < 2 ^ 31 by omega)]
      refine pk_le (R x) c (fun h2 => nm_r (nI_1 x) ?_) (fun h2 => ⟨pk_in x 6 hx, nm_e (nm_r (nI_1 x) ?_)⟩)
      · rw [if_neg (by omega)] at hp
        exact hp
      · rw [if_pos ⟨h, h2⟩, nr_vu] at hp
        exact hp
theorem nr_g20 {post : St1 → Prop} {z : Int32} {s0 : (Nat → Nat) × (Nat → Nat)} (i so : Nat) (hG : nr_gv gp gw) (hB : nr_bd C) (hq : nr_q s0) (hi : i < 6) (hso : so ≤ 1048576) (hz : (z = 0 ∧ nr_h os i = false) ∨ (¬ z = 0 ∧ nr_h os i = true))
    (hp : post (pr, cs, gs, os, sv, a1, a2, a3, a4, a5, (nr_v gp), (nr_v gw), (nr_v C), a9, (nr_v (nr_pg os C gp gw i so s0).1), (nr_v (nr_pg os C gp gw i so s0).2), a12)) : ∃ n, wX_passGrant_20 post (nI i) (nI so) z pr cs gs os sv n 0 a1 a2 a3 a4 a5 (nr_v gp) (nr_v gw) (nr_v C) a9 (nr_v s0.1) (nr_v s0.2) a12 := by
  refine pk_loop (fun m x (s : (Nat → Nat) × (Nat → Nat)) => wX_passGrant_20 post (nI i) (nI so) z pr cs gs os sv m (nI x) a1 a2 a3 a4 a5 (nr_v gp) (nr_v gw) (nr_v C) a9 (nr_v s.1) (nr_v s.2) a12) (fun x s => s = nr_it (nr_px os C gp gw i so) s0 x ∧ nr_q s) 6 0 s0 (by omega) ⟨rfl, hq⟩ ?_ ?_
  · intro m s h
    refine pk_le 6 6 (fun _ => ?_) (fun z => absurd z (by omega))
    rw [h.1]
    exact hp
  · intro m x s hx h hw
    obtain ⟨hE, hs⟩ := h
    obtain ⟨g1, g2⟩ := hG i hi
    have hd := nr_dn_le hB (gp i) (gw i) x
    have hb := nr_q_bd hs x
    have hW := hw (nr_px os C gp gw i so x s) ⟨by rw [hE]; rfl, nr_px_q hx hs⟩
    refine pk_le 6 x (fun z => absurd z (by omega)) (fun _ => ⟨pk_in i 6 hi, pk_in i 6 hi, ?_⟩)
    rw [nI_clamp (show i < 2 ^ 31 by omega)]
    refine nr_dc hB g1 g2 hx (nm_r (e' := nI (so + 1 + nr_dn C (gp i) (gw i) x)) (by rw [nI_1, nI_add]) ?_)
    have hW2 : wX_passGrant_20 post (nI i) (nI so) z pr cs gs os sv m (nI (x + 1)) a1 a2 a3 a4 a5 (nr_v gp) (nr_v gw) (nr_v C) a9 (nr_v (if nr_h os i = true then nr_of s.1 x (so + 1 + nr_dn C (gp i) (gw i) x) else s.1)) (nr_v (nr_of s.2 x (so + 1 + nr_dn C (gp i) (gw i) x))) a12 := hW
    have hc : so + 1 + nr_dn C (gp i) (gw i) x < 2 ^ 31 := by omega
    generalize so + 1 + nr_dn C (gp i) (gw i) x = c at *
    unfold nr_of at hW2
    refine pk_lt 999 c (fun h => nr_g84 (i := i) x c hz hx hc hs.1 ?_) (fun h => ⟨pk_in x 6 hx, ?_⟩)
    · rw [if_neg (show ¬ (c ≤ 999 ∧ c < s.2 x) by omega)] at hW2
      exact hW2
    · rw [nI_clamp (show x < 2 ^ 31 by omega)]
      refine pk_le (s.2 x) c (fun h2 => nr_g84 (i := i) x c hz hx hc hs.1 ?_) (fun h2 => ⟨pk_in x 6 hx, nm_e (nr_g84 (i := i) x c hz hx hc hs.1 ?_)⟩)
      · rw [if_neg (show ¬ (c ≤ 999 ∧ c < s.2 x) by omega)] at hW2
        exact hW2
      · rw [if_pos (show c ≤ 999 ∧ c < s.2 x from ⟨h, h2⟩), nr_vu s.2] at hW2
        exact hW2
theorem nr_pgr {post : St1 → Prop} {s0 : (Nat → Nat) × (Nat → Nat)} (i so : Nat) (hG : nr_gv gp gw) (hB : nr_bd C) (hq : nr_q s0) (hi : i < 6) (hso : so ≤ 1048576)
    (hp : post (pr, cs, gs, os, sv, a1, a2, a3, a4, a5, (nr_v gp), (nr_v gw), (nr_v C), a9, (nr_v (nr_pg os C gp gw i so s0).1), (nr_v (nr_pg os C gp gw i so s0).2), a12)) : wpX_passGrant post (pr, cs, gs, os, sv, a1, a2, a3, a4, a5, (nr_v gp), (nr_v gw), (nr_v C), a9, (nr_v s0.1), (nr_v s0.2), a12) (nI i) (nI so) := by
  unfold wpX_passGrant
  exact br_c (fun h => nr_g20 i so hG hB hq hi hso (Or.inl ⟨rfl, nr_h0 h⟩) hp) (fun h => nr_g20 i so hG hB hq hi hso (Or.inr ⟨by decide, nr_h1 h⟩) hp)
theorem nr_g74 {post : St1 → Prop} {J : Int32 → Int32 → Int32 → Int32 → Int32 → Int32 → Int32 → (Nat → Int32) → (Nat → Int32) → (Nat → Int32) → (Nat → Int32) → (Nat → Int32) → (Nat → Int32) → (Nat → Int32) → (Nat → Int32) → (Nat → Int32) → (Nat → Int32) → (Nat → Int32) → (Nat → Int32) → Prop}
    {d : Int32} {s0 : (Nat → Nat) × (Nat → Nat)} (rd y : Nat) (hG : nr_gv gp gw) (hB : nr_bd C) (hq : nr_q s0) (hy : y < 6)
    (hp : J d (nI (rd + 1)) pr cs gs os sv a1 a2 a3 a4 a5 (nr_v gp) (nr_v gw) (nr_v C) a9 (nr_v (nr_it (nr_gi gs os C a5 gp gw y) s0 6).1) (nr_v (nr_it (nr_gi gs os C a5 gp gw y) s0 6).2) a12) : ∃ n, wX_followGrants_74 post J d (nI rd) (nI y) n 0 pr cs gs os sv a1 a2 a3 a4 a5 (nr_v gp) (nr_v gw) (nr_v C) a9 (nr_v s0.1) (nr_v s0.2) a12 := by
  refine pk_loop (fun m i (s : (Nat → Nat) × (Nat → Nat)) => wX_followGrants_74 post J d (nI rd) (nI y) m (nI i) pr cs gs os sv a1 a2 a3 a4 a5 (nr_v gp) (nr_v gw) (nr_v C) a9 (nr_v s.1) (nr_v s.2) a12) (fun i s => s = nr_it (nr_gi gs os C a5 gp gw y) s0 i ∧ nr_q s) 6 0 s0 (by omega) ⟨rfl, hq⟩ ?_ ?_
  · intro m s h
    refine pk_le 6 6 (fun _ => nm_r (nI_1 rd) ?_) (fun z => absurd z (by omega))
    rw [h.1]
    exact hp
  · intro m i s hi h hw
    obtain ⟨hE, hs⟩ := h
    have hN : nr_it (nr_gi gs os C a5 gp gw y) s0 (i + 1) = nr_gi gs os C a5 gp gw y i s := by rw [hE]; rfl
    refine pk_le 6 i (fun z => absurd z (by omega)) (fun _ => br_c (fun h0 => nm_r (nI_1 i) (hw s ⟨?_, hs⟩)) (fun h1 => ⟨pk_in i 6 hi, ?_⟩))
    · rw [hN]
      unfold nr_gi
      rw [if_neg (fun q => nr_hT q.1 h0)]
    · rw [nI_clamp (show i < 2 ^ 31 by omega)]
      refine br_c (fun e => ⟨pk_in y 6 hy, ?_⟩) (fun e => nm_r (nI_1 i) (hw s ⟨?_, hs⟩))
      · rw [nI_clamp (show y < 2 ^ 31 by omega)]
        refine nr_pgr i (s.1 y) hG hB hs hi (hs.1 y) (nm_r (nI_1 i) (hw (nr_pg os C gp gw i (s.1 y) s) ⟨?_, nr_pg_q hs⟩))
        rw [hN]
        unfold nr_gi
        rw [if_pos ⟨nr_h1 h1, e⟩]
      · rw [hN]
        unfold nr_gi
        rw [if_neg (fun q => e q.2)]
theorem nr_near {post : Int32 → Prop} {d : Int32} {R : Nat → Nat} (hB : nr_bd R) (hp : post (nr_en (nr_mn (nr_fb d) R 6))) : wpX_nearest post (pr, cs, gs, os, sv, a1, a2, a3, a4, a5, a6, a7, a8, a9, (nr_v R), a11, a12) d := by
  unfold wpX_nearest
  refine pk_loop (σ := Unit) (fun n i _ => wX_nearest_4 post d pr cs gs os sv a1 a2 a3 a4 a5 a6 a7 a8 a9 (nr_v R) a11 a12 n (nr_en (nr_mn (nr_fb d) R i)) (nI i)) (fun _ _ => True) 6 0 () (by omega) trivial ?_ ?_
  · intro n _ _
    exact pk_le 6 6 (fun _ => hp) (fun z => absurd z (by omega))
  · intro n i _ hi _ hw
    have t : wX_nearest_4 post d pr cs gs os sv a1 a2 a3 a4 a5 a6 a7 a8 a9 (nr_v R) a11 a12 n (nr_en (nr_mn (nr_fb d) R (i + 1))) (nI (i + 1)) := hw () trivial
    show wX_nearest_4 post d pr cs gs os sv a1 a2 a3 a4 a5 a6 a7 a8 a9 (nr_v R) a11 a12 (n + 1) (nr_en (nr_mn (nr_fb d) R i)) (nI i)
    have hb := hB i
    cases hm : nr_mn (nr_fb d) R i with
    | none =>
      rw [nr_mn_n hm] at t
      refine pk_le 6 i (fun z => absurd z (by omega)) (fun _ => ?_)
      refine br_c (fun z => ⟨pk_in i 6 hi, ?_⟩) (fun z => nm_r (nI_1 i) ?_)
      · rw [nI_clamp (show i < 2 ^ 31 by omega)]
        refine pk_le 1048576 (R i) (fun z2 => nm_r (nI_1 i) ?_) (fun z2 => br_t (show (-1 : Int32) < 0 by decide) (nm_r (nI_1 i) ?_))
        · rw [if_neg (by omega)] at t
          exact t
        · rw [if_pos ⟨decide_eq_true z, z2⟩] at t
          exact t
      · rw [if_neg (fun q => z (of_decide_eq_true q.1))] at t
        exact t
    | some b =>
      have hb1 := nr_mn_some hm
      have hb2 := hB b
      rw [nr_mn_s hm] at t
      refine pk_le 6 i (fun z => absurd z (by omega)) (fun _ => ?_)
      refine br_c (fun z => ⟨pk_in i 6 hi, ?_⟩) (fun z => nm_r (nI_1 i) ?_)
      · rw [nI_clamp (show i < 2 ^ 31 by omega)]
        refine pk_le 1048576 (R i) (fun z2 => nm_r (nI_1 i) ?_) (fun z2 => br_f (nI_pos (show b < 2 ^ 31 by omega)) ⟨pk_in i 6 hi, pk_in b 6 (by omega), pk_le (R b) (R i) (fun z3 => nm_r (nI_1 i) ?_) (fun z3 => nm_r (nI_1 i) ?_) (congrArg (nr_v R) (nI_clamp (show b < 2 ^ 31 by omega)))⟩)
        · rw [if_neg (by omega)] at t
          exact t
        · rw [if_neg (by omega)] at t
          exact t
        · rw [if_pos ⟨decide_eq_true z, z2, z3⟩] at t
          exact t
      · rw [if_neg (fun q => z (of_decide_eq_true q.1))] at t
        exact t
theorem nr_g45 {post : St1 → Prop} {t0 : Int32 × (Nat → Nat) × (Nat → Nat)} (hG : nr_gv gp gw) (hB : nr_bd C) (hq : nr_q t0.2)
    (hp : post (pr, cs, gs, os, sv, a1, a2, a3, a4, a5, (nr_v gp), (nr_v gw), (nr_v C), a9, (nr_v (nr_it (fun _ => nr_gr gs os C a5 gp gw) t0 6).2.1), (nr_v (nr_it (fun _ => nr_gr gs os C a5 gp gw) t0 6).2.2), a12)) : ∃ n, wX_followGrants_45 post n t0.1 0 pr cs gs os sv a1 a2 a3 a4 a5 (nr_v gp) (nr_v gw) (nr_v C) a9 (nr_v t0.2.1) (nr_v t0.2.2) a12 := by
  refine pk_loop (fun m i (t : Int32 × (Nat → Nat) × (Nat → Nat)) => wX_followGrants_45 post m t.1 (nI i) pr cs gs os sv a1 a2 a3 a4 a5 (nr_v gp) (nr_v gw) (nr_v C) a9 (nr_v t.2.1) (nr_v t.2.2) a12) (fun i t => t = nr_it (fun _ => nr_gr gs os C a5 gp gw) t0 i ∧ nr_q t.2) 6 0 t0 (by omega) ⟨rfl, hq⟩ ?_ ?_
  · intro m t h
    refine pk_le 6 6 (fun _ => ?_) (fun z => absurd z (by omega))
    rw [h.1]
    exact hp
  · intro m i t hi h hw
    obtain ⟨hE, hs⟩ := h
    have hN : nr_it (fun _ => nr_gr gs os C a5 gp gw) t0 (i + 1) = nr_gr gs os C a5 gp gw t := by rw [hE]; rfl
    refine pk_le 6 i (fun z => absurd z (by omega)) (fun _ => nr_near (R := t.2.1) hs.1 ?_)
    cases hm : nr_mn (nr_fb t.1) t.2.1 6 with
    | none =>
      have he : nr_gr gs os C a5 gp gw t = t := by
        unfold nr_gr
        rw [hm]
      have hL : nr_it (fun _ => nr_gr gs os C a5 gp gw) t0 6 = t := by
        have := nr_stop (f := fun _ => nr_gr gs os C a5 gp gw) (s := t0) i (fun j => by rw [← hE]; exact he) (6 - i)
        rw [show i + (6 - i) = 6 by omega] at this
        rw [this, hE]
      rw [hL] at hp
      exact br_f (by decide) hp
    | some y =>
      have hr := nr_mn_some hm
      have he : nr_gr gs os C a5 gp gw t = (t.1 ||| ((1 : Int32) <<< (nI y &&& 31)), nr_it (nr_gi gs os C a5 gp gw y) t.2 6) := by
        unfold nr_gr
        rw [hm]
      refine br_t (nI_pos' (show y < 2 ^ 31 by omega)) (nm_r (e' := t.1 ||| ((1 : Int32) <<< (nI y &&& 31))) rfl ?_)
      exact nr_g74 i y hG hB hs hr.1 (hw (t.1 ||| ((1 : Int32) <<< (nI y &&& 31)), nr_it (nr_gi gs os C a5 gp gw y) t.2 6) ⟨he.symm.trans hN.symm, by rw [← he]; exact nr_gr_q hs⟩)
theorem nr_g6 {post : St1 → Prop} {k : Nat} (hG : nr_gv gp gw) (hB : nr_bd C) (hk : k < 6) (hz : nr_z a10 a11)
    (hp : post (pr, cs, gs, os, sv, a1, a2, a3, a4, a5, (nr_v gp), (nr_v gw), (nr_v C), a9, (nr_v (nr_fg gs os C a5 gp gw k).2.1), (nr_v (nr_T gs os C a5 gp gw k)), a12)) : ∃ n, wX_followGrants_6 post (nI k) pr cs gs os sv n 0 a1 a2 a3 a4 a5 (nr_v gp) (nr_v gw) (nr_v C) a9 a10 a11 a12 := by
  refine pk_loop (fun m i (s : (Nat → Int32) × (Nat → Int32)) => wX_followGrants_6 post (nI k) pr cs gs os sv m (nI i) a1 a2 a3 a4 a5 (nr_v gp) (nr_v gw) (nr_v C) a9 s.1 s.2 a12) (fun i s => (∀ j, j < i → s.1 j = nI 1048576 ∧ s.2 j = nI 1048576) ∧ nr_z s.1 s.2) 6 0 (a10, a11) (by omega) ⟨fun j hj => absurd hj (by omega), hz⟩ ?_ ?_
  · intro m s h
    have e1 : s.1 = nr_v nr_R0 := by
      funext j
      by_cases hj : j < 6
      · rw [(h.1 j hj).1]
        exact (congrArg nI (if_pos hj)).symm
      · rw [(h.2 j (by omega)).1]
        exact (congrArg nI (if_neg hj)).symm
    have e2 : s.2 = nr_v nr_R0 := by
      funext j
      by_cases hj : j < 6
      · rw [(h.1 j hj).2]
        exact (congrArg nI (if_pos hj)).symm
      · rw [(h.2 j (by omega)).2]
        exact (congrArg nI (if_neg hj)).symm
    refine pk_le 6 6 (fun _ => ⟨pk_in k 6 hk, nm_r (e' := nr_v (nr_up nr_R0 k 0)) (by rw [nI_clamp (show k < 2 ^ 31 by omega), e1, nr_vu]; rfl) ?_⟩) (fun z => absurd z (by omega))
    rw [e2]
    exact nr_g45 (t0 := (0, (nr_up nr_R0 k 0, nr_R0))) hG hB (nr_q0 hk) hp
  · intro m i s hi h hw
    refine pk_le 6 i (fun z => absurd z (by omega)) (fun _ => ⟨pk_in i 6 hi, nm_r (e' := upd s.1 i 1048576) (by rw [nI_clamp (show i < 2 ^ 31 by omega)]) ⟨pk_in i 6 hi, nm_r (e' := upd s.2 i 1048576) (by rw [nI_clamp (show i < 2 ^ 31 by omega)]) (nm_r (nI_1 i) (hw (upd s.1 i 1048576, upd s.2 i 1048576) ⟨fun j hj => ?_, fun j hj => ?_⟩))⟩⟩)
    · show upd s.1 i 1048576 j = nI 1048576 ∧ upd s.2 i 1048576 j = nI 1048576
      by_cases e : j = i
      · rw [e, pk_us, pk_us]
        exact ⟨rfl, rfl⟩
      · rw [pk_un e, pk_un e]
        exact h.1 j (by omega)
    · show upd s.1 i 1048576 j = 0 ∧ upd s.2 i 1048576 j = 0
      rw [pk_un (show j ≠ i by omega), pk_un (show j ≠ i by omega)]
      exact h.2 j hj
theorem nr_t19 {post : Int32 → St1 → Prop} {T : Nat → Nat} (hB : nr_bd T) (hp : post (nr_bs (fun x => decide (T x < 1048576)) 6) (pr, cs, gs, os, sv, a1, a2, a3, a4, a5, a6, a7, a8, a9, a10, (nr_v T), a12)) : ∃ n, wX_trusted_19 post pr cs gs os sv a1 a2 a3 a4 a5 a6 a7 a8 a9 a10 (nr_v T) a12 n 0 0 := by
  refine pk_loop (σ := Unit) (fun m x _ => wX_trusted_19 post pr cs gs os sv a1 a2 a3 a4 a5 a6 a7 a8 a9 a10 (nr_v T) a12 m (nr_bs (fun x => decide (T x < 1048576)) x) (nI x)) (fun _ _ => True) 6 0 () (by omega) trivial ?_ ?_
  · intro m _ _
    exact pk_le 6 6 (fun _ => hp) (fun z => absurd z (by omega))
  · intro m x _ hx _ hw
    have t : wX_trusted_19 post pr cs gs os sv a1 a2 a3 a4 a5 a6 a7 a8 a9 a10 (nr_v T) a12 m (nr_bs (fun x => decide (T x < 1048576)) (x + 1)) (nI (x + 1)) := hw () trivial
    have hb := hB x
    rw [nr_bs_s] at t
    refine pk_le 6 x (fun z => absurd z (by omega)) (fun _ => ⟨pk_in x 6 hx, ?_⟩)
    rw [nI_clamp (show x < 2 ^ 31 by omega)]
    refine pk_le 1048576 (T x) (fun z => nm_r (nI_1 x) ?_) (fun z => nm_e (nm_r (nI_1 x) ?_))
    · rw [if_neg (by rw [decide_eq_true_iff]; omega)] at t
      exact t
    · rw [if_pos (decide_eq_true z)] at t
      exact t
end
section
variable {cs gs os : Int32} {ow nm pp pw gp gw : Nat → Nat} {a5 : Nat → Int32}
theorem nr_T_p {C : Nat → Nat} {k : Nat} (hk : k < 6) : nr_bd (nr_T gs os C a5 gp gw k) ∧ ∀ j, j < 6 → nr_T gs os C a5 gp gw k j < 1048576 → 1 ≤ nr_T gs os C a5 gp gw k j := by
  have h : nr_q (nr_fg gs os C a5 gp gw k).2 := nr_fg_q hk
  refine ⟨nr_q_bd h, fun j hj hl => ?_⟩
  have hl' : (nr_fg gs os C a5 gp gw k).2.2 j < 1048576 := hl
  show 1 ≤ (nr_fg gs os C a5 gp gw k).2.2 j
  rcases h.2.2 j hj with g | g
  · omega
  · exact g.1
theorem nr_follow {post : St1 → Prop} {u : St1} {k : Nat} (hT : nr_tv ow nm pp pw) (hG : nr_gv gp gw) (hk : k < 6) (hW : nr_W cs gs os ow nm pp pw a5 gp gw u)
    (hp : ∀ (C : Nat → Nat) (S R a12 : Nat → Int32), (nr_sol cs ow nm pp pw) = (C, S) → nr_z R (nr_v (nr_T gs os C a5 gp gw k)) → post (4, cs, gs, os, 1, (nr_v ow), (nr_v nm), (nr_v pp), (nr_v pw), a5, (nr_v gp), (nr_v gw), (nr_v C), S, R, (nr_v (nr_T gs os C a5 gp gw k)), a12)) : wpX_followGrants post u (nI k) := by
  obtain ⟨sv, a8, a9, a10, a11, a12, rfl, hk8, hz⟩ := hW
  have hB := nr_sol_bd cs ow nm pp pw
  have hP := hp (nr_sol cs ow nm pp pw).1 (nr_sol cs ow nm pp pw).2 (nr_v (nr_fg gs os (nr_sol cs ow nm pp pw).1 a5 gp gw k).2.1) a12 (nr_eta _)
  unfold wpX_followGrants
  refine nr_solve hT hk8 ?_
  generalize (nr_sol cs ow nm pp pw) = SL at hB hP ⊢
  have hq : nr_q (nr_fg gs os SL.1 a5 gp gw k).2 := nr_fg_q hk
  refine nr_g6 hG hB hk hz (hP (fun j hj => ⟨?_, ?_⟩))
  · exact congrArg nI (hq.2.1 j hj).1
  · exact congrArg nI (hq.2.1 j hj).2
theorem nr_trusted {post : Int32 → St1 → Prop} {u : St1} {k : Nat} (hT : nr_tv ow nm pp pw) (hG : nr_gv gp gw) (hk : k < 4) (hW : nr_W cs gs os ow nm pp pw a5 gp gw u)
    (hp : ∀ u', nr_V cs gs os ow nm pp pw a5 gp gw u' → post (nr_bs (fun x => decide (nr_T gs os (nr_sol cs ow nm pp pw).1 a5 gp gw k x < 1048576)) 6) u') : wpX_trusted post u (nI k) := by
  have hW' := hW
  obtain ⟨sv, a8, a9, a10, a11, a12, rfl, hk8, hz⟩ := hW
  unfold wpX_trusted
  refine nr_ip hk (br_f (by decide) (nr_follow hT hG (by omega) hW' (fun C S R b12 hs hz' => ?_)))
  have hP := hp _ ⟨C, S, R, _, b12, hs, rfl, hz'⟩
  rw [show (nr_sol cs ow nm pp pw).1 = C by rw [hs]] at hP
  exact nr_t19 (nr_T_p (by omega)).1 hP
theorem nr_trustCost {post : Int32 → St1 → Prop} {u : St1} {k x : Nat} (hT : nr_tv ow nm pp pw) (hG : nr_gv gp gw) (hk : k < 4) (hx : x < 4) (hW : nr_W cs gs os ow nm pp pw a5 gp gw u)
    (hp : ∀ u', nr_V cs gs os ow nm pp pw a5 gp gw u' → post (nr_e (nr_T gs os (nr_sol cs ow nm pp pw).1 a5 gp gw k x)) u') : wpX_trustCost post u (nI k) (nI x) := by
  have hW' := hW
  obtain ⟨sv, a8, a9, a10, a11, a12, rfl, hk8, hz⟩ := hW
  unfold wpX_trustCost
  refine nr_ip hk (br_f (by decide) (nr_ip hx (br_f (by decide) (nr_follow hT hG (by omega) hW' (fun C S R b12 hs hz' => ?_)))))
  have hP := hp _ ⟨C, S, R, _, b12, hs, rfl, hz'⟩
  rw [show (nr_sol cs ow nm pp pw).1 = C by rw [hs]] at hP
  have hB : nr_bd (nr_T gs os C a5 gp gw k) := (nr_T_p (by omega)).1
  unfold nr_e at hP
  generalize nr_T gs os C a5 gp gw k = T at *
  have hb := hB x
  refine ⟨pk_in x 6 (by omega), ?_⟩
  rw [nI_clamp (show x < 2 ^ 31 by omega)]
  refine pk_le 1048576 (T x) (fun z => ?_) (fun z => ⟨pk_in x 6 (by omega), ?_⟩)
  · rw [if_neg (by omega)] at hP
    exact hP
  · rw [if_pos z] at hP
    exact hP
theorem nr_trust {post : Int32 → St1 → Prop} {u : St1} {k : Nat} (hT : nr_tv ow nm pp pw) (hG : nr_gv gp gw) (hk : k < 4) (hW : nr_W cs gs os ow nm pp pw a5 gp gw u) (hp : ∀ u', nr_V cs gs os ow nm pp pw a5 gp gw u' → post 1 u') : wpL_trust post u (nI k) := by
  have hW' := hW
  obtain ⟨sv, a8, a9, a10, a11, a12, rfl, hk8, hz⟩ := hW
  unfold wpL_trust
  refine nr_trusted hT hG hk hW' (fun u' hV => ?_)
  have hV' := hV
  obtain ⟨Cb, Sb, b10, b11, b12, hsb, rfl, hz'⟩ := hV
  have hTp := nr_T_p (gs := gs) (os := os) (a5 := a5) (gp := gp) (gw := gw) (C := (nr_sol cs ow nm pp pw).1) (show k < 6 by omega)
  have hTC : ∀ (post : Int32 → St1 → Prop) (u : St1) (x : Nat), x < 4 → nr_W cs gs os ow nm pp pw a5 gp gw u → (∀ u', nr_V cs gs os ow nm pp pw a5 gp gw u' → post (nr_e (nr_T gs os (nr_sol cs ow nm pp pw).1 a5 gp gw k x)) u') → wpX_trustCost post u (nI k) (nI x) := fun post u x hx hW hp => nr_trustCost hT hG hk hx hW hp
  generalize nr_T gs os (nr_sol cs ow nm pp pw).1 a5 gp gw k = T at *
  refine pk_loop (fun m x (u : St1) => wL_trust_8 post (nI k) (nr_bs (fun x => decide (T x < 1048576)) 6) m (nI x) u.1 u.2.1 u.2.2.1 u.2.2.2.1 u.2.2.2.2.1 u.2.2.2.2.2.1 u.2.2.2.2.2.2.1 u.2.2.2.2.2.2.2.1 u.2.2.2.2.2.2.2.2.1 u.2.2.2.2.2.2.2.2.2.1 u.2.2.2.2.2.2.2.2.2.2.1 u.2.2.2.2.2.2.2.2.2.2.2.1 u.2.2.2.2.2.2.2.2.2.2.2.2.1 u.2.2.2.2.2.2.2.2.2.2.2.2.2.1 u.2.2.2.2.2.2.2.2.2.2.2.2.2.2.1 u.2.2.2.2.2.2.2.2.2.2.2.2.2.2.2.1 u.2.2.2.2.2.2.2.2.2.2.2.2.2.2.2.2) (fun _ u => nr_V cs gs os ow nm pp pw a5 gp gw u) 4 0 (4, cs, gs, os, 1, (nr_v ow), (nr_v nm), (nr_v pp), (nr_v pw), a5, (nr_v gp), (nr_v gw), (nr_v Cb), Sb, b10, b11, b12) (by omega) hV' ?_ ?_
  · intro m u hu
    exact pk_le 4 4 (fun _ => hp u hu) (fun z => absurd z (by omega))
  · intro m x u hx hu hw
    refine pk_le 4 x (fun z => absurd z (by omega)) (fun _ => hTC _ _ x hx (nr_VW hu) (fun u1 hV1 => ?_))
    have hV1' := hV1
    obtain ⟨Cc, Sc, c10, c11, c12, hsc, rfl, hz1⟩ := hV1
    have hbit := nr_bit (fun x => decide (T x < 1048576)) (show x < 6 by omega)
    by_cases hc : T x < 1048576
    · have hb1 : ((nr_bs (fun x => decide (T x < 1048576)) 6 >>> (nI x &&& 31)) &&& 1) = 1 := hbit.mpr (decide_eq_true hc)
      have hc1 := hTp.2 x (by omega) hc
      have hlt : ¬ nI (T x) < 1 := nI_nlt (b := 1) hc1 (by omega)
      refine br_t hb1 ?_
      unfold wL_trust_35
      rw [show nr_e (T x) = nI (T x) from if_pos hc]
      refine br_f hlt ?_
      unfold wL_trust_46
      exact br_t rfl (nm_r (nI_1 x) (hw _ hV1'))
    · have hb0 : ¬ ((nr_bs (fun x => decide (T x < 1048576)) 6 >>> (nI x &&& 31)) &&& 1) = 1 := fun q => hc (of_decide_eq_true (hbit.mp q))
      refine br_f hb0 ?_
      unfold wL_trust_35
      rw [show nr_e (T x) = -1 from if_neg hc]
      refine br_t (by decide) ?_
      unfold wL_trust_46
      exact br_t rfl (nm_r (nI_1 x) (hw _ hV1'))
end
end
section
/-! bits of an Int32 (rows of laws/BITS.to-paste, renamed) -/
def nr_bt (x : Int32) (i : Nat) : Bool := x.toBitVec.getLsbD i
theorem nr_bx {x y : Int32} (h : ∀ i, i < 32 → nr_bt x i = nr_bt y i) : x = y := Int32.toBitVec_inj.mp (BitVec.eq_of_getLsbD_eq (fun i hi => h i hi))
theorem nr_bor (x y : Int32) (i : Nat) : nr_bt (x ||| y) i = (nr_bt x i || nr_bt y i) := by unfold nr_bt; rw [Int32.toBitVec_or, BitVec.getLsbD_or]
theorem nr_band (x y : Int32) (i : Nat) : nr_bt (x &&& y) i = (nr_bt x i && nr_bt y i) := by unfold nr_bt; rw [Int32.toBitVec_and, BitVec.getLsbD_and]
theorem nr_bxor (x y : Int32) (i : Nat) : nr_bt (x ^^^ y) i = (nr_bt x i ^^ nr_bt y i) := by unfold nr_bt; rw [Int32.toBitVec_xor, BitVec.getLsbD_xor]
theorem nr_bm1 : ∀ i, i < 32 → nr_bt (-1) i = true := by decide +kernel
theorem nr_b0 (i : Nat) : nr_bt 0 i = false := BitVec.getLsbD_zero
theorem nr_b1 : ∀ i, i < 32 → nr_bt 1 i = decide (i = 0) := by decide +kernel
theorem nr_bsl : ∀ n, n < 32 → ((nI n &&& 31).toBitVec.smod 32).toNat = n := by decide +kernel
theorem nr_bshl : ∀ n, n < 10 → ∀ i, i < 32 → nr_bt ((1 : Int32) <<< (nI n &&& 31)) i = decide (n = i) := by decide +kernel
theorem nr_bshr (n : Nat) (hn : n < 32) (x : Int32) {i : Nat} (hi : i < 32) : nr_bt (x >>> (nI n &&& 31)) i = if n + i < 32 then nr_bt x (n + i) else nr_bt x 31 := by
  unfold nr_bt
  rw [Int32.toBitVec_shiftRight]
  show (x.toBitVec.sshiftRight ((nI n &&& 31).toBitVec.smod 32).toNat).getLsbD i = _
  rw [nr_bsl n hn, BitVec.getLsbD_sshiftRight, BitVec.msb_eq_getLsbD_last]
  simp [hi]
theorem nr_hb {cs : Int32} {i : Nat} (hi : i < 10) (h : nr_h cs i = true) : nr_bt cs i = true := by
  cases hb : nr_bt cs i with
  | true => rfl
  | false =>
    refine absurd (nr_bx (fun j hj => ?_)) (nr_hT h)
    rw [nr_band, nr_b0, nr_b1 j hj]
    by_cases e : j = 0
    · rw [e, nr_bshr i (by omega) cs (by omega), if_pos (by omega), Nat.add_zero, hb]
      rfl
    · rw [decide_eq_false e, Bool.and_false]
/-- a certificate's bit taken away -/
def nr_rm (cs : Int32) (i : Nat) : Int32 := cs &&& (((1 : Int32) <<< (nI i &&& 31)) ^^^ (-1))
theorem nr_rs {cs : Int32} {i : Nat} (hi : i < 10) (h : nr_h cs i = true) : nr_rm cs i ||| ((1 : Int32) <<< (nI i &&& 31)) = cs := by
  have hb := nr_hb hi h
  unfold nr_rm
  refine nr_bx (fun j hj => ?_)
  rw [nr_bor, nr_band, nr_bxor, nr_bm1 j hj, nr_bshl i hi j hj]
  by_cases e : i = j
  · rw [← e, hb, decide_eq_true rfl]
    rfl
  · rw [decide_eq_false e]
    cases nr_bt cs j <;> rfl
theorem nr_by : ∀ k, k < 13 → (nI k).toInt8.toInt32 = nI k := by decide +kernel
theorem nr_vb {ow : Nat → Nat} {i k : Nat} (hi : i < 10) (hk : k < 13) : upd (nr_v ow) (nI i).toNatClampNeg (nI k).toInt8.toInt32 = nr_v (nr_up ow i k) := by
  rw [nI_clamp (show i < 2 ^ 31 by omega), nr_by k hk, nr_vu]
theorem nr_ok_z {cs sv : Int32} {ow nm pp pw : Nat → Nat} {a8 a9 : Nat → Int32} (hT : nr_tv ow nm pp pw) (h : nr_ok cs ow nm pp pw sv a8 a9) : ∀ j, 108 ≤ j → a8 j = 0 ∧ a9 j = 0 := by
  rcases h with ⟨_, hz⟩ | ⟨_, h8, h9⟩
  · exact hz
  · intro j hj
    obtain ⟨g1, g2⟩ := (nr_fin (cs := cs) hT).1.1 j hj
    rw [h8, h9]
    exact ⟨congrArg nI g1, g2⟩
/-- the members of all names, packed -/
def nr_vw (C : Nat → Nat) : Int64 := nr_it (fun f v => v ||| ((nr_mb C (f / 3) (f % 3)).toInt64 <<< ((4 * nI f).toInt64 &&& 63))) 0 12
theorem nr_itc {σ : Type} {f g : Nat → σ → σ} {s : σ} : ∀ n, (∀ i t, i < n → f i t = g i t) → nr_it f s n = nr_it g s n
  | 0, _ => rfl
  | n + 1, h => by
    show f n (nr_it f s n) = g n (nr_it g s n)
    rw [nr_itc n (fun i t hi => h i t (by omega)), h n _ (by omega)]
theorem nr_vwc {C D : Nat → Nat} (h : ∀ j, j < 12 → nr_mb C (j / 3) (j % 3) = nr_mb D (j / 3) (j % 3)) : nr_vw C = nr_vw D :=
  nr_itc 12 (fun i t hi => by rw [h i hi])
theorem nr_d3 {j : Nat} (hj : j < 18) : nI j / 3 = nI (j / 3) := pk_div (a := j) (d := 3) (by omega) (by omega) (by omega)
theorem nr_m3 {j : Nat} (hj : j < 18) : nI j - nI j / 3 * 3 = nI (j % 3) := pk_rem (a := j) (d := 3) (by omega) (by omega) (by omega)
section
variable {cs gs os : Int32} {ow nm pp pw gp gw : Nat → Nat} {a5 : Nat → Int32}
theorem nr_revoke {post : Int32 → St1 → Prop} {u : St1} {i : Nat} (hT : nr_tv ow nm pp pw) (hi : i < 10) (hW : nr_W cs gs os ow nm pp pw a5 gp gw u) (h0 : nr_h cs i = false → post 0 u) (h1 : nr_h cs i = true → ∀ u', nr_W (nr_rm cs i) gs os ow nm pp pw a5 gp gw u' → post 1 u') : wpX_revoke post u (nI i) := by
  obtain ⟨sv, a8, a9, a10, a11, a12, rfl, hk8, hz⟩ := hW
  unfold wpX_revoke
  exact nr_hc hi (fun hh => br_f (by decide) (nm_e (h1 hh _ ⟨0, a8, a9, a10, a11, a12, rfl, Or.inl ⟨rfl, nr_ok_z hT hk8⟩, hz⟩))) (fun hh => br_t rfl (h0 hh))
theorem nr_view {post : Int64 → St1 → Prop} {u : St1} (hT : nr_tv ow nm pp pw) (hW : nr_W cs gs os ow nm pp pw a5 gp gw u) (hp : ∀ u', nr_W cs gs os ow nm pp pw a5 gp gw u' → post (nr_vw (nr_sol cs ow nm pp pw).1) u') : wpL_view post u := by
  have hW' := hW
  obtain ⟨sv, a8, a9, a10, a11, a12, rfl, hk8, hz⟩ := hW
  unfold wpL_view
  refine pk_loop (fun m f (s : Int64 × St1) => wL_view_4 post m s.1 (nI f) s.2.1 s.2.2.1 s.2.2.2.1 s.2.2.2.2.1 s.2.2.2.2.2.1 s.2.2.2.2.2.2.1 s.2.2.2.2.2.2.2.1 s.2.2.2.2.2.2.2.2.1 s.2.2.2.2.2.2.2.2.2.1 s.2.2.2.2.2.2.2.2.2.2.1 s.2.2.2.2.2.2.2.2.2.2.2.1 s.2.2.2.2.2.2.2.2.2.2.2.2.1 s.2.2.2.2.2.2.2.2.2.2.2.2.2.1 s.2.2.2.2.2.2.2.2.2.2.2.2.2.2.1 s.2.2.2.2.2.2.2.2.2.2.2.2.2.2.2.1 s.2.2.2.2.2.2.2.2.2.2.2.2.2.2.2.2.1 s.2.2.2.2.2.2.2.2.2.2.2.2.2.2.2.2.2) (fun f s => s.1 = nr_it (fun f v => v ||| ((nr_mb (nr_sol cs ow nm pp pw).1 (f / 3) (f % 3)).toInt64 <<< ((4 * nI f).toInt64 &&& 63))) 0 f ∧ nr_W cs gs os ow nm pp pw a5 gp gw s.2) 12 0 (0, (4, cs, gs, os, sv, (nr_v ow), (nr_v nm), (nr_v pp), (nr_v pw), a5, (nr_v gp), (nr_v gw), a8, a9, a10, a11, a12)) (by omega) ⟨rfl, hW'⟩ ?_ ?_
  · intro m s h
    refine pk_le 12 12 (fun _ => ?_) (fun z => absurd z (by omega))
    rw [h.1]
    exact hp s.2 h.2
  · intro m f s hf h hw
    refine pk_le 12 f (fun z => absurd z (by omega)) (fun _ => ⟨by decide, by decide, ?_⟩)
    rw [nr_m3 (show f < 18 by omega), nr_d3 (show f < 18 by omega)]
    refine nr_members hT (by omega) (by omega) h.2 (fun u1 hV1 => ?_)
    have hV1' := hV1
    obtain ⟨Cc, Sc, c10, c11, c12, hsc, rfl, hz1⟩ := hV1
    refine nm_e (nm_r (nI_1 f) (hw (_, _) ⟨?_, nr_VW hV1'⟩))
    rw [h.1]
    rfl
theorem nr_matters {post : Int32 → St1 → Prop} {u : St1} {i : Nat} (hT : nr_tv ow nm pp pw) (hi : i < 10) (hW : nr_W cs gs os ow nm pp pw a5 gp gw u)
    (hp : ∀ r u', nr_W cs gs os ow nm pp pw a5 gp gw u' → (r = 0 → nr_h cs i = true → ∀ j, j < 18 → nr_mb (nr_sol cs ow nm pp pw).1 (j / 3) (j % 3) = nr_mb (nr_sol (nr_rm cs i) ow nm pp pw).1 (j / 3) (j % 3)) → post r u') : wpX_matters post u (nI i) := by
  have hW' := hW
  obtain ⟨sv, a8, a9, a10, a11, a12, rfl, hk8, hz⟩ := hW
  unfold wpX_matters
  refine nr_hc hi (fun hh => br_f (by decide) (nr_solve hT hk8 ?_)) (fun hh => br_t rfl (hp 0 _ hW' (fun _ q => absurd (hh.symm.trans q) (by decide))))
  have hB := nr_sol_bd cs ow nm pp pw
  have hZ := (nr_fin (cs := cs) hT).1.1
  have hsv := fun (post : St1 → Prop) (a8 a9 a12 : Nat → Int32) hk hp => nr_solve (pr := 4) (gs := gs) (os := os) (sv := 0) (a5 := a5) (a6 := nr_v gp) (a7 := nr_v gw) (a10 := a10) (a11 := a11) (a12 := a12) (st := a9) (cs := nr_rm cs i) (post := post) (a8 := a8) hT hk hp
  have hB' := nr_sol_bd (nr_rm cs i) ow nm pp pw
  have hZ' := (nr_fin (cs := nr_rm cs i) hT).1.1
  have hok : ∀ a8 a9 : Nat → Int32, (∀ j, 108 ≤ j → a8 j = 0 ∧ a9 j = 0) → nr_ok (nr_rm cs i) ow nm pp pw 0 a8 a9 := fun a8 a9 h => Or.inl ⟨rfl, h⟩
  clear hW' hk8
  generalize (nr_sol cs ow nm pp pw) = SL at hp hB hZ ⊢
  generalize nr_sol (nr_rm cs i) ow nm pp pw = SM at hp hB' hZ' hsv
  obtain ⟨C, S⟩ := SL
  obtain ⟨D, T⟩ := SM
  refine pk_loop (fun m j s => wX_matters_16 post (nI i) 4 cs gs os 1 m (nI j) (nr_v ow) (nr_v nm) (nr_v pp) (nr_v pw) a5 (nr_v gp) (nr_v gw) (nr_v C) S a10 a11 s) (fun j s => ∀ q, q < j → s q = nr_mb C (q / 3) (q % 3)) 18 0 a12 (by omega) (fun q hq => absurd hq (by omega)) ?_ ?_
  · intro m s h
    refine pk_le 18 18 (fun _ => nm_r (e' := nr_rm cs i) rfl ?_) (fun z => absurd z (by omega))
    refine hsv _ _ _ _ (hok _ _ (fun j hj => ⟨congrArg nI (hZ j hj).1, (hZ j hj).2⟩)) ?_
    refine pk_loop (fun m j x2 => wX_matters_72 post (nI i) 4 (nr_rm cs i) gs os 1 (nr_v ow) (nr_v nm) (nr_v pp) (nr_v pw) a5 (nr_v gp) (nr_v gw) (nr_v D) T a10 a11 s m x2 (nI j)) (fun j x2 => (x2 = 0 ∨ x2 = 1) ∧ (x2 = 0 → ∀ q, q < j → nr_mb D (q / 3) (q % 3) = s q)) 18 0 0 (by omega) ⟨Or.inl rfl, fun _ q hq => absurd hq (by omega)⟩ ?_ ?_
    · intro m x2 h2
      refine pk_le 18 18 (fun _ => nm_r (nr_rs hi hh) ⟨?_, hp x2 _ ⟨0, nr_v D, T, a10, a11, s, rfl, Or.inl ⟨rfl, fun j hj => ⟨congrArg nI (hZ' j hj).1, (hZ' j hj).2⟩⟩, hz⟩ (fun e _ j hj => ?_)⟩) (fun z => absurd z (by omega))
      · rcases h2.1 with e | e
        · rw [e]
          rfl
        · rw [e]
          rfl
      · rw [← h j hj, ← h2.2 e j hj]
    · intro m j x2 hj h2 hw
      refine pk_le 18 j (fun z => absurd z (by omega)) (fun _ => ⟨by decide, by decide, ?_⟩)
      rw [nr_m3 hj, nr_d3 hj]
      refine nr_ms (by omega) (by omega) hB' ⟨pk_in j 18 hj, ?_⟩
      rw [nI_clamp (show j < 2 ^ 31 by omega)]
      refine br_c (fun z => nm_r (nI_1 j) (hw x2 ⟨h2.1, fun e q hq => ?_⟩)) (fun z => nm_r (nI_1 j) (hw 1 ⟨Or.inr rfl, fun e => absurd e (by decide)⟩))
      by_cases eq : q = j
      · rw [eq]
        exact z
      · exact h2.2 e q (by omega)
  · intro m j s hj h hw
    refine pk_le 18 j (fun z => absurd z (by omega)) (fun _ => ⟨by decide, by decide, ?_⟩)
    rw [nr_m3 hj, nr_d3 hj]
    refine nr_ms (by omega) (by omega) hB ⟨pk_in j 18 hj, nm_r (e' := upd s j (nr_mb C (j / 3) (j % 3))) (by rw [nI_clamp (show j < 2 ^ 31 by omega), show (nr_mb C (j / 3) (j % 3)).toInt8.toInt32 = nr_mb C (j / 3) (j % 3) from nr_byt _]) (nm_r (nI_1 j) (hw _ (fun q hq => ?_)))⟩
    by_cases eq : q = j
    · rw [eq, pk_us]
    · rw [pk_un eq]
      exact h q (by omega)
theorem nr_certify {post : Int32 → St1 → Prop} {u : St1} {k n p w : Nat} (hT : nr_tv ow nm pp pw) (hk : k < 4) (hn : n < 3) (hp : p < 4) (hw : w ≤ 12) (hW : nr_W cs gs os ow nm pp pw a5 gp gw u)
    (h : ∀ r cs' ow' nm' pp' pw' u', nr_tv ow' nm' pp' pw' → nr_W cs' gs os ow' nm' pp' pw' a5 gp gw u' → post r u') : wpX_certify post u (nI k) (nI n) (nI p) (nI w) := by
  have hW' := hW
  obtain ⟨sv, a8, a9, a10, a11, a12, rfl, hk8, hz⟩ := hW
  unfold wpX_certify
  refine nr_ip hk (br_f (by decide) (nr_ip hp (br_f (by decide) (nr_in hn (br_f (by decide) (nr_ih hw (br_f (by decide) ?_)))))))
  refine pk_loop (σ := Unit) (fun m i _ => wX_certify_36 post (nI k) (nI n) (nI p) (nI w) 4 cs gs os sv (nr_v ow) (nr_v nm) (nr_v pp) (nr_v pw) a5 (nr_v gp) (nr_v gw) a8 a9 a10 a11 a12 m (nI i)) (fun _ _ => True) 10 0 () (by omega) trivial ?_ ?_
  · intro m _ _
    exact pk_le 10 10 (fun _ => h (-2) cs ow nm pp pw _ hT hW') (fun z => absurd z (by omega))
  · intro m i _ hi _ hw2
    refine pk_le 10 i (fun z => absurd z (by omega)) (fun _ => br_c (fun z => ⟨pk_in i 10 hi, nm_r (nr_vb hi (by omega)) ⟨pk_in i 10 hi, nm_r (nr_vb hi (by omega)) ⟨pk_in i 10 hi, nm_r (nr_vb hi (by omega)) ⟨pk_in i 10 hi, nm_r (nr_vb hi (by omega)) (nm_e (h _ _ (nr_up ow i k) (nr_up nm i n) (nr_up pp i p) (nr_up pw i w) _ (fun j hj => ?_) ⟨0, a8, a9, a10, a11, a12, rfl, Or.inl ⟨rfl, nr_ok_z hT hk8⟩, hz⟩))⟩⟩⟩⟩) (fun z => nm_r (nI_1 i) (hw2 () trivial)))
    by_cases e : j = i
    · rw [e, nr_us, nr_us, nr_us, nr_us]
      omega
    · rw [nr_un e, nr_un e, nr_un e, nr_un e]
      exact hT j hj
theorem nr_grant {post : Int32 → St1 → Prop} {u : St1} {k p w : Nat} {op : Int32} (hG : nr_gv gp gw) (hk : k < 4) (hp : p < 4) (hw : w ≤ 12) (hW : nr_W cs gs os ow nm pp pw a5 gp gw u)
    (h : ∀ r gs' os' a5' gp' gw' u', nr_gv gp' gw' → nr_W cs gs' os' ow nm pp pw a5' gp' gw' u' → post r u') : wpX_grant post u (nI k) (nI p) (nI w) op := by
  have hW' := hW
  obtain ⟨sv, a8, a9, a10, a11, a12, rfl, hk8, hz⟩ := hW
  unfold wpX_grant
  refine nr_ip hk (br_f (by decide) (nr_ip hp (br_f (by decide) (nr_ih hw (br_f (by decide) ?_)))))
  refine pk_loop (σ := Unit) (fun m i _ => wX_grant_28 post (nI k) (nI p) (nI w) op 4 cs gs os sv (nr_v ow) (nr_v nm) (nr_v pp) (nr_v pw) a5 (nr_v gp) (nr_v gw) a8 a9 a10 a11 a12 m (nI i)) (fun _ _ => True) 6 0 () (by omega) trivial ?_ ?_
  · intro m _ _
    exact pk_le 6 6 (fun _ => h (-2) gs os a5 gp gw _ hG hW') (fun z => absurd z (by omega))
  · intro m i _ hi _ hw2
    have hg : nr_gv (nr_up gp i p) (nr_up gw i w) := by
      intro j hj
      by_cases e : j = i
      · rw [e, nr_us, nr_us]
        omega
      · rw [nr_un e, nr_un e]
        exact hG j hj
    refine pk_le 6 i (fun z => absurd z (by omega)) (fun _ => br_c (fun z => ⟨pk_in i 6 hi, nm_e ⟨pk_in i 6 hi, nm_r (nr_vb (by omega) (by omega)) ⟨pk_in i 6 hi, nm_r (nr_vb (by omega) (by omega)) (nm_e (br_c (fun z2 => nm_e ?_) (fun z2 => nm_e ?_)))⟩⟩⟩) (fun z => nm_r (nI_1 i) (hw2 () trivial)))
    · exact h _ _ _ _ _ _ _ hg ⟨sv, a8, a9, a10, a11, a12, rfl, hk8, hz⟩
    · exact h _ _ _ _ _ _ _ hg ⟨sv, a8, a9, a10, a11, a12, rfl, hk8, hz⟩
theorem nr_withdraw {post : Int32 → St1 → Prop} {u : St1} {i : Nat} (hi : i < 6) (hW : nr_W cs gs os ow nm pp pw a5 gp gw u) (h : ∀ r gs' u', nr_W cs gs' os ow nm pp pw a5 gp gw u' → post r u') : wpX_withdraw post u (nI i) := by
  have hW' := hW
  obtain ⟨sv, a8, a9, a10, a11, a12, rfl, hk8, hz⟩ := hW
  unfold wpX_withdraw
  exact pk_lt i 0 (fun z => absurd z (by omega)) (fun _ => pk_le 6 i (fun z => absurd z (by omega)) (fun _ => br_c (fun z => h _ _ _ hW') (fun z => nm_e (h _ _ _ ⟨sv, a8, a9, a10, a11, a12, rfl, hk8, hz⟩))))
end
/-- the object between turns -/
def nr_LI (u : St1) : Prop := ∃ (cs gs os : Int32) (ow nm pp pw : Nat → Nat) (a5 : Nat → Int32) (gp gw : Nat → Nat), nr_tv ow nm pp pw ∧ nr_gv gp gw ∧ nr_W cs gs os ow nm pp pw a5 gp gw u
theorem nr_r {x : Int32} {d : Nat} {D : Int32} (hD : D = nI d) (h0 : 0 < d) (hd : d < 256) : ∃ j, j < d ∧ (x &&& 255) - (x &&& 255) / D * D = nI j := by
  obtain ⟨j, hj, e⟩ := pk_andE x (m := 255) 8 (by decide)
  refine ⟨j % d, Nat.mod_lt _ h0, ?_⟩
  rw [e, hD]
  exact pk_rem (by omega) h0 (by omega)
theorem nr_turn {post : St1 → Prop} {u : St1} {w x y : Int32} (hu : nr_LI u) (hp : ∀ u', nr_LI u' → post u') : wpL_turn post u w x y := by
  obtain ⟨cs, gs, os, ow, nm, pp, pw, a5, gp, gw, hT, hG, hW⟩ := hu
  have hW' := hW
  obtain ⟨sv, a8, a9, a10, a11, a12, rfl, hk8, hz⟩ := hW
  obtain ⟨k, hk, ek⟩ := nr_r (x := x) (d := 4) (D := 4) rfl (by omega) (by omega)
  obtain ⟨p, hpp, ep⟩ := nr_r (x := y) (d := 4) (D := 4) rfl (by omega) (by omega)
  obtain ⟨q, hq, eq⟩ := nr_r (x := y >>> ((8 : Int32) &&& 31)) (d := 13) (D := 13) rfl (by omega) (by omega)
  obtain ⟨n, hn, en⟩ := nr_r (x := x >>> ((8 : Int32) &&& 31)) (d := 3) (D := 3) rfl (by omega) (by omega)
  obtain ⟨v, hv, ev⟩ := nr_r (x := x) (d := 10) (D := 10) rfl (by omega) (by omega)
  obtain ⟨t, ht, et⟩ := nr_r (x := x) (d := 6) (D := 6) rfl (by omega) (by omega)
  have hc : ∀ w, w ≤ 12 → wL_turn_67 post (nI w) (nI p) (nI n) (nI k) 4 cs gs os sv (nr_v ow) (nr_v nm) (nr_v pp) (nr_v pw) a5 (nr_v gp) (nr_v gw) a8 a9 a10 a11 a12 := by
    intro w hw
    unfold wL_turn_67
    refine nr_certify hT hk hn hpp hw hW' (fun r cs' ow' nm' pp' pw' u' hT' hu' => ?_)
    have hu'' := hu'
    obtain ⟨sv', b8, b9, b10, b11, b12, rfl, hk8', hz'⟩ := hu'
    exact hp _ ⟨cs', gs, os, ow', nm', pp', pw', a5, gp, gw, hT', hG, hu''⟩
  have hg : ∀ op, wL_turn_124 post op (nI q) (nI p) (nI k) 4 cs gs os sv (nr_v ow) (nr_v nm) (nr_v pp) (nr_v pw) a5 (nr_v gp) (nr_v gw) a8 a9 a10 a11 a12 := by
    intro op
    unfold wL_turn_124
    refine nr_grant hG hk hpp (by omega) hW' (fun r gs' os' a5' gp' gw' u' hG' hu' => ?_)
    have hu'' := hu'
    obtain ⟨sv', b8, b9, b10, b11, b12, rfl, hk8', hz'⟩ := hu'
    exact hp _ ⟨cs, gs', os', ow, nm, pp, pw, a5', gp', gw', hT, hG', hu''⟩
  unfold wpL_turn
  refine ⟨by decide, nm_r ek ⟨by decide, nm_r ep ⟨by decide, nm_r eq (br_c (fun _ => br_c (fun _ => br_c (fun _ => ⟨by decide, ?_⟩) (fun _ => br_c (fun _ => hg 1) (fun _ => hg 0))) (fun _ => ⟨by decide, ?_⟩)) (fun _ => ⟨by decide, ?_⟩))⟩⟩⟩
  · rw [et]
    refine nr_withdraw ht hW' (fun r gs' u' hu' => ?_)
    have hu'' := hu'
    obtain ⟨sv', b8, b9, b10, b11, b12, rfl, hk8', hz'⟩ := hu'
    exact hp _ ⟨cs, gs', os, ow, nm, pp, pw, a5, gp, gw, hT, hG, hu''⟩
  · rw [ev]
    refine nr_revoke hT hv hW' (fun _ => hp _ ⟨cs, gs, os, ow, nm, pp, pw, a5, gp, gw, hT, hG, hW'⟩) (fun _ u' hu' => ?_)
    have hu'' := hu'
    obtain ⟨sv', b8, b9, b10, b11, b12, rfl, hk8', hz'⟩ := hu'
    exact hp _ ⟨nr_rm cs v, gs, os, ow, nm, pp, pw, a5, gp, gw, hT, hG, hu''⟩
  · rw [en]
    exact br_c (fun _ => hc 0 (by omega)) (fun _ => hc q (by omega))
end
section
section
variable {cs gs os : Int32} {ow nm pp pw gp gw : Nat → Nat} {a5 : Nat → Int32}
theorem nr_144 {L : Nat} {xs : Nat → Int32} {x2 : Int32} {i kc ks : Nat} {u : St1} (hT : nr_tv ow nm pp pw) (hi : i < 10) (hW : nr_W cs gs os ow nm pp pw a5 gp gw u)
    (hm : ¬ x2 = 0 → nr_h cs i = true → ∀ j, j < 18 → nr_mb (nr_sol cs ow nm pp pw).1 (j / 3) (j % 3) = nr_mb (nr_sol (nr_rm cs i) ow nm pp pw).1 (j / 3) (j % 3)) :
    wL_law_144 (fun r => r = 1) L xs x2 (nr_vw (nr_sol cs ow nm pp pw).1) (nI i) kc ks u.1 u.2.1 u.2.2.1 u.2.2.2.1 u.2.2.2.2.1 u.2.2.2.2.2.1 u.2.2.2.2.2.2.1 u.2.2.2.2.2.2.2.1 u.2.2.2.2.2.2.2.2.1 u.2.2.2.2.2.2.2.2.2.1 u.2.2.2.2.2.2.2.2.2.2.1 u.2.2.2.2.2.2.2.2.2.2.2.1 u.2.2.2.2.2.2.2.2.2.2.2.2.1 u.2.2.2.2.2.2.2.2.2.2.2.2.2.1 u.2.2.2.2.2.2.2.2.2.2.2.2.2.2.1 u.2.2.2.2.2.2.2.2.2.2.2.2.2.2.2.1 u.2.2.2.2.2.2.2.2.2.2.2.2.2.2.2.2 := by
  have hW' := hW
  obtain ⟨sv, a8, a9, a10, a11, a12, rfl, hk8, hz⟩ := hW
  unfold wL_law_144
  refine nr_revoke hT hi hW' (fun hh => ?_) (fun hh u1 hW1 => ?_)
  · refine nr_view hT hW' (fun u2 hW2 => ?_)
    obtain ⟨sv2, b8, b9, b10, b11, b12, rfl, _, _⟩ := hW2
    exact br_c (fun _ => rfl) (fun _ => br_t rfl rfl)
  · have hW1' := hW1
    obtain ⟨sv1, c8, c9, c10, c11, c12, rfl, _, _⟩ := hW1
    refine nr_view hT hW1' (fun u2 hW2 => ?_)
    obtain ⟨sv2, b8, b9, b10, b11, b12, rfl, _, _⟩ := hW2
    refine br_c (fun _ => rfl) (fun hx => br_t ?_ rfl)
    exact (nr_vwc (fun j hj => hm hx hh j (by omega))).symm
theorem nr_88 {L : Nat} {xs : Nat → Int32} {kc ks : Nat} {u : St1} (hL : L ≤ 260) (hT : nr_tv ow nm pp pw) (hW : nr_W cs gs os ow nm pp pw a5 gp gw u) : ∃ n, wL_law_88 (fun r => r = 1) L xs kc ks n 1 0 u.1 u.2.1 u.2.2.1 u.2.2.2.1 u.2.2.2.2.1 u.2.2.2.2.2.1 u.2.2.2.2.2.2.1 u.2.2.2.2.2.2.2.1 u.2.2.2.2.2.2.2.2.1 u.2.2.2.2.2.2.2.2.2.1 u.2.2.2.2.2.2.2.2.2.2.1 u.2.2.2.2.2.2.2.2.2.2.2.1 u.2.2.2.2.2.2.2.2.2.2.2.2.1 u.2.2.2.2.2.2.2.2.2.2.2.2.2.1 u.2.2.2.2.2.2.2.2.2.2.2.2.2.2.1 u.2.2.2.2.2.2.2.2.2.2.2.2.2.2.2.1 u.2.2.2.2.2.2.2.2.2.2.2.2.2.2.2.2 := by
  refine pk_loop (fun m i (s : Int32 × St1) => wL_law_88 (fun r => r = 1) L xs kc ks m s.1 (nI i) s.2.1 s.2.2.1 s.2.2.2.1 s.2.2.2.2.1 s.2.2.2.2.2.1 s.2.2.2.2.2.2.1 s.2.2.2.2.2.2.2.1 s.2.2.2.2.2.2.2.2.1 s.2.2.2.2.2.2.2.2.2.1 s.2.2.2.2.2.2.2.2.2.2.1 s.2.2.2.2.2.2.2.2.2.2.2.1 s.2.2.2.2.2.2.2.2.2.2.2.2.1 s.2.2.2.2.2.2.2.2.2.2.2.2.2.1 s.2.2.2.2.2.2.2.2.2.2.2.2.2.2.1 s.2.2.2.2.2.2.2.2.2.2.2.2.2.2.2.1 s.2.2.2.2.2.2.2.2.2.2.2.2.2.2.2.2.1 s.2.2.2.2.2.2.2.2.2.2.2.2.2.2.2.2.2) (fun i s => nr_W cs gs os ow nm pp pw a5 gp gw s.2 ∧ (¬ s.1 = 0 → ∀ q, q < i → nr_h cs q = true → ∀ j, j < 18 → nr_mb (nr_sol cs ow nm pp pw).1 (j / 3) (j % 3) = nr_mb (nr_sol (nr_rm cs q) ow nm pp pw).1 (j / 3) (j % 3))) 10 0 (1, u) (by omega) ⟨hW, fun _ q hq => absurd hq (by omega)⟩ ?_ ?_
  · intro m s h
    refine pk_le 10 10 (fun _ => nr_view hT h.1 (fun u1 hW1 => ?_)) (fun z => absurd z (by omega))
    have hW1' := hW1
    obtain ⟨sv1, c8, c9, c10, c11, c12, rfl, _, _⟩ := hW1
    refine br_c (fun _ => nr_144 (i := 0) hT (by omega) hW1' (fun hx hh => h.2 hx 0 (by omega) hh)) (fun hz => ?_)
    have hL0 : 0 < L := by
      rcases Nat.eq_zero_or_pos L with e | e
      · rw [e] at hz
        exact absurd (by decide) hz
      · exact e
    have hv : vp_in (Int32.ofNat L - 1) L := pk_in (L - 1) L (by omega) (pk_sub (a := L) (b := 1) hL0)
    refine ⟨hv, by decide, ?_⟩
    obtain ⟨t, ht, e⟩ := pk_andE (xs (Int32.ofNat L - 1).toNatClampNeg) (m := 65535) 16 (by decide)
    have e2 : ((xs (Int32.ofNat L - 1).toNatClampNeg) &&& 65535) - ((xs (Int32.ofNat L - 1).toNatClampNeg) &&& 65535) / 10 * 10 = nI (t % 10) := by
      rw [e]
      exact pk_rem (a := t) (d := 10) (by omega) (by omega) (by omega)
    rw [e2]
    exact nr_144 (i := t % 10) hT (by omega) hW1' (fun hx hh => h.2 hx (t % 10) (by omega) hh)
  · intro m i s hi h hw
    refine pk_le 10 i (fun z => absurd z (by omega)) (fun _ => br_c (fun hx => nm_r (nI_1 i) (hw (0, s.2) ⟨h.1, fun q => absurd rfl q⟩)) (fun hx => nr_matters hT hi h.1 (fun r u1 hW1 hm => ?_)))
    have hW1' := hW1
    obtain ⟨sv1, c8, c9, c10, c11, c12, rfl, _, _⟩ := hW1
    refine br_c (fun hr => nm_r (nI_1 i) (hw (1, _) ⟨hW1', fun _ q hq hh => ?_⟩)) (fun hr => nm_r (nI_1 i) (hw (0, _) ⟨hW1', fun q => absurd rfl q⟩))
    by_cases e : q = i
    · rw [e] at hh ⊢
      exact hm hr hh
    · exact h.2 hx q (by omega) hh
theorem nr_47 {L : Nat} {xs : Nat → Int32} {kc ks : Nat} {u : St1} (hL : L ≤ 260) (hT : nr_tv ow nm pp pw) (hG : nr_gv gp gw) (hW : nr_W cs gs os ow nm pp pw a5 gp gw u) : ∃ n, wL_law_47 (fun r => r = 1) L xs kc ks n 0 u.1 u.2.1 u.2.2.1 u.2.2.2.1 u.2.2.2.2.1 u.2.2.2.2.2.1 u.2.2.2.2.2.2.1 u.2.2.2.2.2.2.2.1 u.2.2.2.2.2.2.2.2.1 u.2.2.2.2.2.2.2.2.2.1 u.2.2.2.2.2.2.2.2.2.2.1 u.2.2.2.2.2.2.2.2.2.2.2.1 u.2.2.2.2.2.2.2.2.2.2.2.2.1 u.2.2.2.2.2.2.2.2.2.2.2.2.2.1 u.2.2.2.2.2.2.2.2.2.2.2.2.2.2.1 u.2.2.2.2.2.2.2.2.2.2.2.2.2.2.2.1 u.2.2.2.2.2.2.2.2.2.2.2.2.2.2.2.2 := by
  refine pk_loop (fun m f (u : St1) => wL_law_47 (fun r => r = 1) L xs kc ks m (nI f) u.1 u.2.1 u.2.2.1 u.2.2.2.1 u.2.2.2.2.1 u.2.2.2.2.2.1 u.2.2.2.2.2.2.1 u.2.2.2.2.2.2.2.1 u.2.2.2.2.2.2.2.2.1 u.2.2.2.2.2.2.2.2.2.1 u.2.2.2.2.2.2.2.2.2.2.1 u.2.2.2.2.2.2.2.2.2.2.2.1 u.2.2.2.2.2.2.2.2.2.2.2.2.1 u.2.2.2.2.2.2.2.2.2.2.2.2.2.1 u.2.2.2.2.2.2.2.2.2.2.2.2.2.2.1 u.2.2.2.2.2.2.2.2.2.2.2.2.2.2.2.1 u.2.2.2.2.2.2.2.2.2.2.2.2.2.2.2.2) (fun _ u => nr_W cs gs os ow nm pp pw a5 gp gw u) 12 0 u (by omega) hW ?_ ?_
  · intro m u hu
    exact pk_le 12 12 (fun _ => nr_88 hL hT hu) (fun z => absurd z (by omega))
  · intro m f u hf hu hw
    refine pk_le 12 f (fun z => absurd z (by omega)) (fun _ => ⟨by decide, by decide, ?_⟩)
    rw [nr_m3 (show f < 18 by omega), nr_d3 (show f < 18 by omega)]
    refine nr_name hT (by omega) (by omega) hu (fun u1 hV1 => ?_)
    have hV1' := hV1
    obtain ⟨Cc, Sc, c10, c11, c12, hsc, rfl, hz1⟩ := hV1
    refine br_f (by decide) ⟨by decide, ?_⟩
    refine nr_trust hT hG (by omega) (nr_VW hV1') (fun u2 hV2 => ?_)
    have hV2' := hV2
    obtain ⟨Cd, Sd, d10, d11, d12, hsd, rfl, hz2⟩ := hV2
    exact br_f (by decide) (nm_r (nI_1 f) (hw _ (nr_VW hV2')))
end
theorem nr_11 {L : Nat} {xs : Nat → Int32} {kc ks : Nat} {u : St1} (hL : L ≤ 260) (hu : nr_LI u) : ∃ n, wL_law_11 (fun r => r = 1) L xs kc ks n 0 u.1 u.2.1 u.2.2.1 u.2.2.2.1 u.2.2.2.2.1 u.2.2.2.2.2.1 u.2.2.2.2.2.2.1 u.2.2.2.2.2.2.2.1 u.2.2.2.2.2.2.2.2.1 u.2.2.2.2.2.2.2.2.2.1 u.2.2.2.2.2.2.2.2.2.2.1 u.2.2.2.2.2.2.2.2.2.2.2.1 u.2.2.2.2.2.2.2.2.2.2.2.2.1 u.2.2.2.2.2.2.2.2.2.2.2.2.2.1 u.2.2.2.2.2.2.2.2.2.2.2.2.2.2.1 u.2.2.2.2.2.2.2.2.2.2.2.2.2.2.2.1 u.2.2.2.2.2.2.2.2.2.2.2.2.2.2.2.2 := by
  refine pk_loop (fun m t (u : St1) => wL_law_11 (fun r => r = 1) L xs kc ks m (nI (3 * t)) u.1 u.2.1 u.2.2.1 u.2.2.2.1 u.2.2.2.2.1 u.2.2.2.2.2.1 u.2.2.2.2.2.2.1 u.2.2.2.2.2.2.2.1 u.2.2.2.2.2.2.2.2.1 u.2.2.2.2.2.2.2.2.2.1 u.2.2.2.2.2.2.2.2.2.2.1 u.2.2.2.2.2.2.2.2.2.2.2.1 u.2.2.2.2.2.2.2.2.2.2.2.2.1 u.2.2.2.2.2.2.2.2.2.2.2.2.2.1 u.2.2.2.2.2.2.2.2.2.2.2.2.2.2.1 u.2.2.2.2.2.2.2.2.2.2.2.2.2.2.2.1 u.2.2.2.2.2.2.2.2.2.2.2.2.2.2.2.2) (fun _ u => nr_LI u) (L / 3) 0 u (by omega) hu ?_ ?_
  · intro m u hu
    obtain ⟨cs, gs, os, ow, nm, pp, pw, a5, gp, gw, hT, hG, hW⟩ := hu
    exact pk_le L (3 * (L / 3) + 2) (fun _ => nr_47 hL hT hG hW) (fun z => absurd z (by omega)) rfl (nI_add (3 * (L / 3)) 2)
  · intro m t u ht hu hw
    refine pk_le L (3 * t + 2) (fun z => absurd z (by omega)) (fun _ => ⟨pk_in (3 * t) L (by omega), pk_in (3 * t + 1) L (by omega) (nI_add (3 * t) 1), pk_in (3 * t + 2) L (by omega) (nI_add (3 * t) 2), nr_turn hu (fun u1 hu1 => ?_)⟩) rfl (nI_add (3 * t) 2)
    have hu1' := hu1
    obtain ⟨cs, gs, os, ow, nm, pp, pw, a5, gp, gw, hT, hG, sv1, c8, c9, c10, c11, c12, rfl, _, _⟩ := hu1
    exact nm_r (nI_add (3 * t) 3) (hw _ hu1')
theorem i_vc (xs : Nat → Int32) (L : Nat) (hL : L ≤ 260) : wpL_law (fun r => r = 1) L xs := by
  refine ⟨12, 304, by omega, by omega, ?_⟩
  have hu : nr_LI (4, 0, 0, 0, 0, (fun _ => 0), (fun _ => 0), (fun _ => 0), (fun _ => 0), (fun _ => 0), (fun _ => 0), (fun _ => 0), (fun _ => 0), (fun _ => 0), (fun _ => 0), (fun _ => 0), (fun _ => 0)) :=
    ⟨0, 0, 0, (fun _ => 0), (fun _ => 0), (fun _ => 0), (fun _ => 0), (fun _ => 0), (fun _ => 0), (fun _ => 0), fun i _ => (show 0 < 6 ∧ 0 < 3 ∧ 0 < 6 ∧ 0 ≤ 12 by decide), fun i _ => (show 0 < 6 ∧ 0 ≤ 12 by decide), 0, (fun _ => 0), (fun _ => 0), (fun _ => 0), (fun _ => 0), (fun _ => 0), rfl, Or.inl ⟨rfl, fun j _ => ⟨rfl, rfl⟩⟩, fun j _ => ⟨rfl, rfl⟩⟩
  have h := nr_11 (xs := xs) (kc := 1 + 12) (ks := 17 + 304) hL hu
  unfold wpX_init
  exact ⟨by omega, by omega, by omega, by omega, by omega, by omega, by omega, by omega, by omega, by omega, by omega, by omega, by omega, by omega, by omega, by omega, by omega, by omega, by omega, by omega, by omega, by omega, by omega, by omega, br_t (by decide) (br_t (by decide) h)⟩
end
