section
/-! the program in use, as a picture: code, first (a place, a note, a letter), second (a place) -/
def rc_code (lz : Bool) : Nat → Nat
  | 0 => 3 | 1 => cond lz 6 5 | 2 => 1 | 3 => 3 | 4 => 0 | 5 => 3 | 6 => 2 | 7 => 3 | 8 => 0 | 9 => 3 | 10 => 7 | 11 => 3 | 12 => 0 | _ => 4
def rc_x : Nat → Nat
  | 0 => 5 | 1 => 2 | 2 => 3 | 3 => 3 | 4 => 0 | 5 => 0 | 6 => 10 | 7 => 4 | 8 => 1 | 9 => 1 | 10 => 1 | 11 => 2 | 12 => 2 | _ => 0
def rc_y : Nat → Nat
  | 1 => 11 | 2 => 7 | _ => 0
def rc_prog (lz : Bool) (a6 a7 a8 : Nat → Int32) : Prop :=
  ∀ j, j < 14 → a6 j = nI (rc_code lz j)
    ∧ ((rc_code lz j = 0 ∨ rc_code lz j = 3) → a7 j = nI (rc_x j))
    ∧ ((rc_code lz j = 1 ∨ rc_code lz j = 5 ∨ rc_code lz j = 6 ∨ rc_code lz j = 2 ∨ rc_code lz j = 7) → nI j + a7 j = nI (rc_x j))
    ∧ ((rc_code lz j = 1 ∨ rc_code lz j = 5 ∨ rc_code lz j = 6) → nI j + a8 j = nI (rc_y j))
def rc_sk (a15 a16 a17 : Nat → Int32) : List (Nat × Nat × (Nat → Int32)) → Prop
  | [] => True
  | t :: r => a15 r.length = nI t.1 ∧ a16 r.length = nI t.2.1 ∧ (∀ k, k < 6 → a17 (r.length * 6 + k) = t.2.2 k) ∧ rc_sk a15 a16 a17 r
def rc_tn (p q : Nat → Int32) (l : List (Nat × (Nat → Int32))) : Prop := ∀ i t, l[i]? = some t → p i = nI t.1 ∧ ∀ k, k < 6 → q (i * 6 + k) = t.2 k
def rc_mem (j : Nat) : List Nat → Bool
  | [] => false
  | a :: r => Nat.beq a j || rc_mem j r
def rc_sn (a14 : Nat → Int32) (sn : List Nat) : Prop := ∀ j, j < 1088 → (a14 j = 0 ↔ rc_mem j sn = false)
/-! frames -/
theorem rc_fill {s f : Nat → Int32} {b i X : Nat} {v : Int32} (hX : X = b + i) (hv : v = f i) (h : ∀ k, k < i → s (b + k) = f k) : ∀ k, k < i + 1 → upd s X v (b + k) = f k := by
  intro k hk
  subst hX hv
  by_cases e : k = i
  · rw [e, pk_us]
  · rw [pk_un (by omega)]
    exact h k (by omega)
theorem rc_fill0 {s f : Nat → Int32} {i X : Nat} {v : Int32} (hX : X = i) (hv : v = f i) (h : ∀ k, k < i → s k = f k) : ∀ k, k < i + 1 → upd s X v k = f k := by
  intro k hk
  subst hX hv
  by_cases e : k = X
  · rw [e, pk_us]
  · rw [pk_un e]
    exact h k (by omega)
theorem rc_keep {s g : Nat → Int32} {B X : Nat} {v : Int32} (hX : B ≤ X) (h : ∀ j, j < B → s j = g j) : ∀ j, j < B → upd s X v j = g j := by
  intro j hj
  rw [pk_un (by omega)]
  exact h j hj
theorem rc_keepU {g : Nat → Int32} {B X : Nat} {v : Int32} (hX : B ≤ X) : ∀ j, j < B → upd g X v j = g j :=
  rc_keep hX (fun _ _ => rfl)
theorem rc_sk_fr {a15 a16 a17 b15 b16 b17 : Nat → Int32} : ∀ (r : List (Nat × Nat × (Nat → Int32))), (∀ j, j < r.length → b15 j = a15 j) → (∀ j, j < r.length → b16 j = a16 j) → (∀ j, j < r.length * 6 → b17 j = a17 j) → rc_sk a15 a16 a17 r → rc_sk b15 b16 b17 r := by
  intro r
  induction r with
  | nil => intro _ _ _ _; trivial
  | cons t r ih =>
    intro h15 h16 h17 h
    obtain ⟨e1, e2, e3, e4⟩ := h
    have hl : (t :: r).length = r.length + 1 := rfl
    refine ⟨?_, ?_, ?_, ?_⟩
    · rw [h15 _ (by omega)]; exact e1
    · rw [h16 _ (by omega)]; exact e2
    · intro k hk
      rw [h17 _ (by omega)]; exact e3 k hk
    · exact ih (fun j hj => h15 j (by omega)) (fun j hj => h16 j (by omega)) (fun j hj => h17 j (by omega)) e4
theorem rc_tn_add {p q p' q' : Nat → Int32} {l : List (Nat × (Nat → Int32))} {t : Nat × (Nat → Int32)} (h : rc_tn p q l) (h1 : ∀ j, j < l.length → p' j = p j) (h2 : ∀ j, j < l.length * 6 → q' j = q j) (h3 : p' l.length = nI t.1) (h4 : ∀ k, k < 6 → q' (l.length * 6 + k) = t.2 k) : rc_tn p' q' (l ++ [t]) := by
  intro i u hu
  by_cases e : i < l.length
  · rw [List.getElem?_append_left e] at hu
    obtain ⟨g1, g2⟩ := h i u hu
    refine ⟨by rw [h1 i e]; exact g1, fun k hk => ?_⟩
    rw [h2 _ (by omega)]; exact g2 k hk
  · by_cases e2 : i = l.length
    · subst e2
      rw [List.getElem?_append_right (Nat.le_refl _), Nat.sub_self] at hu
      have hu' : t = u := by simpa using hu
      subst hu'
      exact ⟨h3, h4⟩
    · rw [List.getElem?_eq_none (by rw [List.length_append]; simp; omega)] at hu
      exact absurd hu (by simp)
theorem rc_tn_0 {p q : Nat → Int32} : rc_tn p q [] := by
  intro i t h
  simp at h
theorem rc_sn_add {a14 : Nat → Int32} {sn : List Nat} {m : Nat} (h : rc_sn a14 sn) : rc_sn (upd a14 m 1) (m :: sn) := by
  intro j hj
  by_cases e : j = m
  · subst e
    rw [pk_us]
    have : rc_mem j (j :: sn) = true := by
      show (Nat.beq j j || rc_mem j sn) = true
      rw [Nat.beq_refl]; rfl
    rw [this]
    exact ⟨fun z => absurd z (by decide), fun z => absurd z (by decide)⟩
  · rw [pk_un e]
    have : rc_mem j (m :: sn) = rc_mem j sn := by
      show (Nat.beq m j || rc_mem j sn) = rc_mem j sn
      have : Nat.beq m j = false := by
        cases hb : Nat.beq m j
        · rfl
        · exact absurd (Nat.eq_of_beq_eq_true hb).symm e
      rw [this]; rfl
    rw [this]
    exact h j hj
/-! one instruction, one run of 'follow' -/
def rc_go (lz : Bool) (pl : Int32) (pc id : Nat) (nt : Nat → Int32) (r : List (Nat × Nat × (Nat → Int32))) (nx : List (Nat × (Nat → Int32))) : List (Nat × Nat × (Nat → Int32)) × List (Nat × (Nat → Int32)) :=
  match rc_code lz pc with
  | 1 => ((rc_x pc, id, nt) :: (rc_y pc, id, nt) :: r, nx)
  | 5 => ((rc_x pc, id + 1, nt) :: (rc_y pc, id, nt) :: r, nx)
  | 6 => ((rc_y pc, id, nt) :: (rc_x pc, id + 1, nt) :: r, nx)
  | 2 => ((rc_x pc, id, nt) :: r, nx)
  | 7 => match id with
    | 0 => ((rc_x pc, 0, nt) :: r, nx)
    | _ + 1 => (r, nx)
  | 3 => ((pc + 1, id, cond (Nat.ble 3 (rc_x pc)) (upd nt (rc_x pc) pl) (upd nt (rc_x pc) (16 * nt (rc_x pc + 3) + pl))) :: r, nx)
  | _ => (r, nx ++ [(pc, nt)])
def rc_mk (lz : Bool) (pc id : Nat) : Nat :=
  match rc_code lz pc with
  | 0 => pc * 17
  | 4 => pc * 17
  | _ => pc * 17 + id
def rc_ok (pc id : Nat) (r : List (Nat × Nat × (Nat → Int32))) (nx : List (Nat × (Nat → Int32))) : Bool :=
  Nat.blt pc 14 && Nat.blt id 16 && Nat.blt r.length 630 && Nat.blt nx.length 60
def rc_run (lz : Bool) (pl : Int32) : Nat → List (Nat × Nat × (Nat → Int32)) → List (Nat × (Nat → Int32)) → List Nat → Option (List (Nat × (Nat → Int32)) × List Nat)
  | 0, _, _, _ => none
  | _ + 1, [], nx, sn => some (nx, sn)
  | n + 1, t :: r, nx, sn =>
    cond (rc_ok t.1 t.2.1 r nx)
      (cond (rc_mem (rc_mk lz t.1 t.2.1) sn) (rc_run lz pl n r nx sn)
        (rc_run lz pl n (rc_go lz pl t.1 t.2.1 t.2.2 r nx).1 (rc_go lz pl t.1 t.2.1 t.2.2 r nx).2 (rc_mk lz t.1 t.2.1 :: sn)))
      none
def rc_thr (lz : Bool) (B : Nat → Int32) (pl : Int32) : List (Nat × (Nat → Int32)) :=
  cond lz [(12, upd B 2 (16 * B 5 + pl)), (4, upd B 3 pl), (8, upd B 4 pl)] [(4, upd B 3 pl), (8, upd B 4 pl), (12, upd B 2 (16 * B 5 + pl))]
/-! one step of all threads: the notes that are found, if any, and the next threads -/
def rc_st (lz : Bool) (pl : Int32) (ok : Bool) (ch : Option Nat) : List (Nat × (Nat → Int32)) → List (Nat × (Nat → Int32)) → List Nat → Option (Option (Nat → Int32) × List (Nat × (Nat → Int32)))
  | [], nx, _ => some (none, nx)
  | t :: r, nx, sn =>
    cond (Nat.blt t.1 13 && Nat.beq (rc_code lz t.1) 0 && Nat.blt (rc_x t.1) 3)
      (match ch with
        | none => rc_st lz pl ok ch r nx sn
        | some c => cond (Nat.beq (rc_x t.1) c)
          (match rc_run lz (pl + 1) 20 [(t.1 + 1, 0, t.2)] nx sn with
            | none => none
            | some z => rc_st lz pl ok ch r z.1 z.2)
          (rc_st lz pl ok ch r nx sn))
      (cond (Nat.beq t.1 13) (cond ok (some (some t.2, nx)) (rc_st lz pl ok ch r nx sn)) none)
end
section
theorem rc_run_s_f (B : Nat → Int32) (pl : Int32) : rc_run false pl 20 [(0, 0, B)] [] [] = some (rc_thr false (upd B 5 pl) pl, [204, 187, 136, 120, 68, 52, 35, 17, 0]) := by
  have h0 : ∀ n, rc_run false pl (n + 1) [(0, 0, B)] [] [] = rc_run false pl n [(1, 0, (upd B 5 pl))] [] [0] := fun _ => rfl
  have h1 : ∀ n, rc_run false pl (n + 1) [(1, 0, (upd B 5 pl))] [] [0] = rc_run false pl n [(2, 1, (upd B 5 pl)), (11, 0, (upd B 5 pl))] [] [17, 0] := fun _ => rfl
  have h2 : ∀ n, rc_run false pl (n + 1) [(2, 1, (upd B 5 pl)), (11, 0, (upd B 5 pl))] [] [17, 0] = rc_run false pl n [(3, 1, (upd B 5 pl)), (7, 1, (upd B 5 pl)), (11, 0, (upd B 5 pl))] [] [35, 17, 0] := fun _ => rfl
  have h3 : ∀ n, rc_run false pl (n + 1) [(3, 1, (upd B 5 pl)), (7, 1, (upd B 5 pl)), (11, 0, (upd B 5 pl))] [] [35, 17, 0] = rc_run false pl n [(4, 1, (upd (upd B 5 pl) 3 pl)), (7, 1, (upd B 5 pl)), (11, 0, (upd B 5 pl))] [] [52, 35, 17, 0] := fun _ => rfl
  have h4 : ∀ n, rc_run false pl (n + 1) [(4, 1, (upd (upd B 5 pl) 3 pl)), (7, 1, (upd B 5 pl)), (11, 0, (upd B 5 pl))] [] [52, 35, 17, 0] = rc_run false pl n [(7, 1, (upd B 5 pl)), (11, 0, (upd B 5 pl))] [(4, (upd (upd B 5 pl) 3 pl))] [68, 52, 35, 17, 0] := fun _ => rfl
  have h5 : ∀ n, rc_run false pl (n + 1) [(7, 1, (upd B 5 pl)), (11, 0, (upd B 5 pl))] [(4, (upd (upd B 5 pl) 3 pl))] [68, 52, 35, 17, 0] = rc_run false pl n [(8, 1, (upd (upd B 5 pl) 4 pl)), (11, 0, (upd B 5 pl))] [(4, (upd (upd B 5 pl) 3 pl))] [120, 68, 52, 35, 17, 0] := fun _ => rfl
  have h6 : ∀ n, rc_run false pl (n + 1) [(8, 1, (upd (upd B 5 pl) 4 pl)), (11, 0, (upd B 5 pl))] [(4, (upd (upd B 5 pl) 3 pl))] [120, 68, 52, 35, 17, 0] = rc_run false pl n [(11, 0, (upd B 5 pl))] [(4, (upd (upd B 5 pl) 3 pl)), (8, (upd (upd B 5 pl) 4 pl))] [136, 120, 68, 52, 35, 17, 0] := fun _ => rfl
  have h7 : ∀ n, rc_run false pl (n + 1) [(11, 0, (upd B 5 pl))] [(4, (upd (upd B 5 pl) 3 pl)), (8, (upd (upd B 5 pl) 4 pl))] [136, 120, 68, 52, 35, 17, 0] = rc_run false pl n [(12, 0, (upd (upd B 5 pl) 2 (16 * (upd B 5 pl) 5 + pl)))] [(4, (upd (upd B 5 pl) 3 pl)), (8, (upd (upd B 5 pl) 4 pl))] [187, 136, 120, 68, 52, 35, 17, 0] := fun _ => rfl
  have h8 : ∀ n, rc_run false pl (n + 1) [(12, 0, (upd (upd B 5 pl) 2 (16 * (upd B 5 pl) 5 + pl)))] [(4, (upd (upd B 5 pl) 3 pl)), (8, (upd (upd B 5 pl) 4 pl))] [187, 136, 120, 68, 52, 35, 17, 0] = rc_run false pl n [] [(4, (upd (upd B 5 pl) 3 pl)), (8, (upd (upd B 5 pl) 4 pl)), (12, (upd (upd B 5 pl) 2 (16 * (upd B 5 pl) 5 + pl)))] [204, 187, 136, 120, 68, 52, 35, 17, 0] := fun _ => rfl
  exact (h0 19).trans ((h1 18).trans ((h2 17).trans ((h3 16).trans ((h4 15).trans ((h5 14).trans ((h6 13).trans ((h7 12).trans ((h8 11).trans (rfl)))))))))
theorem rc_run_s_t (B : Nat → Int32) (pl : Int32) : rc_run true pl 20 [(0, 0, B)] [] [] = some (rc_thr true (upd B 5 pl) pl, [136, 120, 68, 52, 35, 204, 187, 17, 0]) := by
  have h0 : ∀ n, rc_run true pl (n + 1) [(0, 0, B)] [] [] = rc_run true pl n [(1, 0, (upd B 5 pl))] [] [0] := fun _ => rfl
  have h1 : ∀ n, rc_run true pl (n + 1) [(1, 0, (upd B 5 pl))] [] [0] = rc_run true pl n [(11, 0, (upd B 5 pl)), (2, 1, (upd B 5 pl))] [] [17, 0] := fun _ => rfl
  have h2 : ∀ n, rc_run true pl (n + 1) [(11, 0, (upd B 5 pl)), (2, 1, (upd B 5 pl))] [] [17, 0] = rc_run true pl n [(12, 0, (upd (upd B 5 pl) 2 (16 * (upd B 5 pl) 5 + pl))), (2, 1, (upd B 5 pl))] [] [187, 17, 0] := fun _ => rfl
  have h3 : ∀ n, rc_run true pl (n + 1) [(12, 0, (upd (upd B 5 pl) 2 (16 * (upd B 5 pl) 5 + pl))), (2, 1, (upd B 5 pl))] [] [187, 17, 0] = rc_run true pl n [(2, 1, (upd B 5 pl))] [(12, (upd (upd B 5 pl) 2 (16 * (upd B 5 pl) 5 + pl)))] [204, 187, 17, 0] := fun _ => rfl
  have h4 : ∀ n, rc_run true pl (n + 1) [(2, 1, (upd B 5 pl))] [(12, (upd (upd B 5 pl) 2 (16 * (upd B 5 pl) 5 + pl)))] [204, 187, 17, 0] = rc_run true pl n [(3, 1, (upd B 5 pl)), (7, 1, (upd B 5 pl))] [(12, (upd (upd B 5 pl) 2 (16 * (upd B 5 pl) 5 + pl)))] [35, 204, 187, 17, 0] := fun _ => rfl
  have h5 : ∀ n, rc_run true pl (n + 1) [(3, 1, (upd B 5 pl)), (7, 1, (upd B 5 pl))] [(12, (upd (upd B 5 pl) 2 (16 * (upd B 5 pl) 5 + pl)))] [35, 204, 187, 17, 0] = rc_run true pl n [(4, 1, (upd (upd B 5 pl) 3 pl)), (7, 1, (upd B 5 pl))] [(12, (upd (upd B 5 pl) 2 (16 * (upd B 5 pl) 5 + pl)))] [52, 35, 204, 187, 17, 0] := fun _ => rfl
  have h6 : ∀ n, rc_run true pl (n + 1) [(4, 1, (upd (upd B 5 pl) 3 pl)), (7, 1, (upd B 5 pl))] [(12, (upd (upd B 5 pl) 2 (16 * (upd B 5 pl) 5 + pl)))] [52, 35, 204, 187, 17, 0] = rc_run true pl n [(7, 1, (upd B 5 pl))] [(12, (upd (upd B 5 pl) 2 (16 * (upd B 5 pl) 5 + pl))), (4, (upd (upd B 5 pl) 3 pl))] [68, 52, 35, 204, 187, 17, 0] := fun _ => rfl
  have h7 : ∀ n, rc_run true pl (n + 1) [(7, 1, (upd B 5 pl))] [(12, (upd (upd B 5 pl) 2 (16 * (upd B 5 pl) 5 + pl))), (4, (upd (upd B 5 pl) 3 pl))] [68, 52, 35, 204, 187, 17, 0] = rc_run true pl n [(8, 1, (upd (upd B 5 pl) 4 pl))] [(12, (upd (upd B 5 pl) 2 (16 * (upd B 5 pl) 5 + pl))), (4, (upd (upd B 5 pl) 3 pl))] [120, 68, 52, 35, 204, 187, 17, 0] := fun _ => rfl
  have h8 : ∀ n, rc_run true pl (n + 1) [(8, 1, (upd (upd B 5 pl) 4 pl))] [(12, (upd (upd B 5 pl) 2 (16 * (upd B 5 pl) 5 + pl))), (4, (upd (upd B 5 pl) 3 pl))] [120, 68, 52, 35, 204, 187, 17, 0] = rc_run true pl n [] [(12, (upd (upd B 5 pl) 2 (16 * (upd B 5 pl) 5 + pl))), (4, (upd (upd B 5 pl) 3 pl)), (8, (upd (upd B 5 pl) 4 pl))] [136, 120, 68, 52, 35, 204, 187, 17, 0] := fun _ => rfl
  exact (h0 19).trans ((h1 18).trans ((h2 17).trans ((h3 16).trans ((h4 15).trans ((h5 14).trans ((h6 13).trans ((h7 12).trans ((h8 11).trans (rfl)))))))))
theorem rc_run_s (lz : Bool) (B : Nat → Int32) (pl : Int32) : ∃ sn, rc_run lz pl 20 [(0, 0, B)] [] [] = some (rc_thr lz (upd B 5 pl) pl, sn) := by
  cases lz
  · exact ⟨_, rc_run_s_f B pl⟩
  · exact ⟨_, rc_run_s_t B pl⟩
theorem rc_run_0_f (B : Nat → Int32) (pl : Int32) : rc_run false pl 20 [(5, 0, B)] [] [] = some (rc_thr false (upd B 0 (16 * B 3 + pl)) pl, [204, 187, 136, 120, 68, 52, 35, 17, 170, 102, 85]) := by
  have h0 : ∀ n, rc_run false pl (n + 1) [(5, 0, B)] [] [] = rc_run false pl n [(6, 0, (upd B 0 (16 * B 3 + pl)))] [] [85] := fun _ => rfl
  have h1 : ∀ n, rc_run false pl (n + 1) [(6, 0, (upd B 0 (16 * B 3 + pl)))] [] [85] = rc_run false pl n [(10, 0, (upd B 0 (16 * B 3 + pl)))] [] [102, 85] := fun _ => rfl
  have h2 : ∀ n, rc_run false pl (n + 1) [(10, 0, (upd B 0 (16 * B 3 + pl)))] [] [102, 85] = rc_run false pl n [(1, 0, (upd B 0 (16 * B 3 + pl)))] [] [170, 102, 85] := fun _ => rfl
  have h3 : ∀ n, rc_run false pl (n + 1) [(1, 0, (upd B 0 (16 * B 3 + pl)))] [] [170, 102, 85] = rc_run false pl n [(2, 1, (upd B 0 (16 * B 3 + pl))), (11, 0, (upd B 0 (16 * B 3 + pl)))] [] [17, 170, 102, 85] := fun _ => rfl
  have h4 : ∀ n, rc_run false pl (n + 1) [(2, 1, (upd B 0 (16 * B 3 + pl))), (11, 0, (upd B 0 (16 * B 3 + pl)))] [] [17, 170, 102, 85] = rc_run false pl n [(3, 1, (upd B 0 (16 * B 3 + pl))), (7, 1, (upd B 0 (16 * B 3 + pl))), (11, 0, (upd B 0 (16 * B 3 + pl)))] [] [35, 17, 170, 102, 85] := fun _ => rfl
  have h5 : ∀ n, rc_run false pl (n + 1) [(3, 1, (upd B 0 (16 * B 3 + pl))), (7, 1, (upd B 0 (16 * B 3 + pl))), (11, 0, (upd B 0 (16 * B 3 + pl)))] [] [35, 17, 170, 102, 85] = rc_run false pl n [(4, 1, (upd (upd B 0 (16 * B 3 + pl)) 3 pl)), (7, 1, (upd B 0 (16 * B 3 + pl))), (11, 0, (upd B 0 (16 * B 3 + pl)))] [] [52, 35, 17, 170, 102, 85] := fun _ => rfl
  have h6 : ∀ n, rc_run false pl (n + 1) [(4, 1, (upd (upd B 0 (16 * B 3 + pl)) 3 pl)), (7, 1, (upd B 0 (16 * B 3 + pl))), (11, 0, (upd B 0 (16 * B 3 + pl)))] [] [52, 35, 17, 170, 102, 85] = rc_run false pl n [(7, 1, (upd B 0 (16 * B 3 + pl))), (11, 0, (upd B 0 (16 * B 3 + pl)))] [(4, (upd (upd B 0 (16 * B 3 + pl)) 3 pl))] [68, 52, 35, 17, 170, 102, 85] := fun _ => rfl
  have h7 : ∀ n, rc_run false pl (n + 1) [(7, 1, (upd B 0 (16 * B 3 + pl))), (11, 0, (upd B 0 (16 * B 3 + pl)))] [(4, (upd (upd B 0 (16 * B 3 + pl)) 3 pl))] [68, 52, 35, 17, 170, 102, 85] = rc_run false pl n [(8, 1, (upd (upd B 0 (16 * B 3 + pl)) 4 pl)), (11, 0, (upd B 0 (16 * B 3 + pl)))] [(4, (upd (upd B 0 (16 * B 3 + pl)) 3 pl))] [120, 68, 52, 35, 17, 170, 102, 85] := fun _ => rfl
  have h8 : ∀ n, rc_run false pl (n + 1) [(8, 1, (upd (upd B 0 (16 * B 3 + pl)) 4 pl)), (11, 0, (upd B 0 (16 * B 3 + pl)))] [(4, (upd (upd B 0 (16 * B 3 + pl)) 3 pl))] [120, 68, 52, 35, 17, 170, 102, 85] = rc_run false pl n [(11, 0, (upd B 0 (16 * B 3 + pl)))] [(4, (upd (upd B 0 (16 * B 3 + pl)) 3 pl)), (8, (upd (upd B 0 (16 * B 3 + pl)) 4 pl))] [136, 120, 68, 52, 35, 17, 170, 102, 85] := fun _ => rfl
  have h9 : ∀ n, rc_run false pl (n + 1) [(11, 0, (upd B 0 (16 * B 3 + pl)))] [(4, (upd (upd B 0 (16 * B 3 + pl)) 3 pl)), (8, (upd (upd B 0 (16 * B 3 + pl)) 4 pl))] [136, 120, 68, 52, 35, 17, 170, 102, 85] = rc_run false pl n [(12, 0, (upd (upd B 0 (16 * B 3 + pl)) 2 (16 * (upd B 0 (16 * B 3 + pl)) 5 + pl)))] [(4, (upd (upd B 0 (16 * B 3 + pl)) 3 pl)), (8, (upd (upd B 0 (16 * B 3 + pl)) 4 pl))] [187, 136, 120, 68, 52, 35, 17, 170, 102, 85] := fun _ => rfl
  have h10 : ∀ n, rc_run false pl (n + 1) [(12, 0, (upd (upd B 0 (16 * B 3 + pl)) 2 (16 * (upd B 0 (16 * B 3 + pl)) 5 + pl)))] [(4, (upd (upd B 0 (16 * B 3 + pl)) 3 pl)), (8, (upd (upd B 0 (16 * B 3 + pl)) 4 pl))] [187, 136, 120, 68, 52, 35, 17, 170, 102, 85] = rc_run false pl n [] [(4, (upd (upd B 0 (16 * B 3 + pl)) 3 pl)), (8, (upd (upd B 0 (16 * B 3 + pl)) 4 pl)), (12, (upd (upd B 0 (16 * B 3 + pl)) 2 (16 * (upd B 0 (16 * B 3 + pl)) 5 + pl)))] [204, 187, 136, 120, 68, 52, 35, 17, 170, 102, 85] := fun _ => rfl
  exact (h0 19).trans ((h1 18).trans ((h2 17).trans ((h3 16).trans ((h4 15).trans ((h5 14).trans ((h6 13).trans ((h7 12).trans ((h8 11).trans ((h9 10).trans ((h10 9).trans (rfl)))))))))))
theorem rc_run_0_t (B : Nat → Int32) (pl : Int32) : rc_run true pl 20 [(5, 0, B)] [] [] = some (rc_thr true (upd B 0 (16 * B 3 + pl)) pl, [136, 120, 68, 52, 35, 204, 187, 17, 170, 102, 85]) := by
  have h0 : ∀ n, rc_run true pl (n + 1) [(5, 0, B)] [] [] = rc_run true pl n [(6, 0, (upd B 0 (16 * B 3 + pl)))] [] [85] := fun _ => rfl
  have h1 : ∀ n, rc_run true pl (n + 1) [(6, 0, (upd B 0 (16 * B 3 + pl)))] [] [85] = rc_run true pl n [(10, 0, (upd B 0 (16 * B 3 + pl)))] [] [102, 85] := fun _ => rfl
  have h2 : ∀ n, rc_run true pl (n + 1) [(10, 0, (upd B 0 (16 * B 3 + pl)))] [] [102, 85] = rc_run true pl n [(1, 0, (upd B 0 (16 * B 3 + pl)))] [] [170, 102, 85] := fun _ => rfl
  have h3 : ∀ n, rc_run true pl (n + 1) [(1, 0, (upd B 0 (16 * B 3 + pl)))] [] [170, 102, 85] = rc_run true pl n [(11, 0, (upd B 0 (16 * B 3 + pl))), (2, 1, (upd B 0 (16 * B 3 + pl)))] [] [17, 170, 102, 85] := fun _ => rfl
  have h4 : ∀ n, rc_run true pl (n + 1) [(11, 0, (upd B 0 (16 * B 3 + pl))), (2, 1, (upd B 0 (16 * B 3 + pl)))] [] [17, 170, 102, 85] = rc_run true pl n [(12, 0, (upd (upd B 0 (16 * B 3 + pl)) 2 (16 * (upd B 0 (16 * B 3 + pl)) 5 + pl))), (2, 1, (upd B 0 (16 * B 3 + pl)))] [] [187, 17, 170, 102, 85] := fun _ => rfl
  have h5 : ∀ n, rc_run true pl (n + 1) [(12, 0, (upd (upd B 0 (16 * B 3 + pl)) 2 (16 * (upd B 0 (16 * B 3 + pl)) 5 + pl))), (2, 1, (upd B 0 (16 * B 3 + pl)))] [] [187, 17, 170, 102, 85] = rc_run true pl n [(2, 1, (upd B 0 (16 * B 3 + pl)))] [(12, (upd (upd B 0 (16 * B 3 + pl)) 2 (16 * (upd B 0 (16 * B 3 + pl)) 5 + pl)))] [204, 187, 17, 170, 102, 85] := fun _ => rfl
  have h6 : ∀ n, rc_run true pl (n + 1) [(2, 1, (upd B 0 (16 * B 3 + pl)))] [(12, (upd (upd B 0 (16 * B 3 + pl)) 2 (16 * (upd B 0 (16 * B 3 + pl)) 5 + pl)))] [204, 187, 17, 170, 102, 85] = rc_run true pl n [(3, 1, (upd B 0 (16 * B 3 + pl))), (7, 1, (upd B 0 (16 * B 3 + pl)))] [(12, (upd (upd B 0 (16 * B 3 + pl)) 2 (16 * (upd B 0 (16 * B 3 + pl)) 5 + pl)))] [35, 204, 187, 17, 170, 102, 85] := fun _ => rfl
  have h7 : ∀ n, rc_run true pl (n + 1) [(3, 1, (upd B 0 (16 * B 3 + pl))), (7, 1, (upd B 0 (16 * B 3 + pl)))] [(12, (upd (upd B 0 (16 * B 3 + pl)) 2 (16 * (upd B 0 (16 * B 3 + pl)) 5 + pl)))] [35, 204, 187, 17, 170, 102, 85] = rc_run true pl n [(4, 1, (upd (upd B 0 (16 * B 3 + pl)) 3 pl)), (7, 1, (upd B 0 (16 * B 3 + pl)))] [(12, (upd (upd B 0 (16 * B 3 + pl)) 2 (16 * (upd B 0 (16 * B 3 + pl)) 5 + pl)))] [52, 35, 204, 187, 17, 170, 102, 85] := fun _ => rfl
  have h8 : ∀ n, rc_run true pl (n + 1) [(4, 1, (upd (upd B 0 (16 * B 3 + pl)) 3 pl)), (7, 1, (upd B 0 (16 * B 3 + pl)))] [(12, (upd (upd B 0 (16 * B 3 + pl)) 2 (16 * (upd B 0 (16 * B 3 + pl)) 5 + pl)))] [52, 35, 204, 187, 17, 170, 102, 85] = rc_run true pl n [(7, 1, (upd B 0 (16 * B 3 + pl)))] [(12, (upd (upd B 0 (16 * B 3 + pl)) 2 (16 * (upd B 0 (16 * B 3 + pl)) 5 + pl))), (4, (upd (upd B 0 (16 * B 3 + pl)) 3 pl))] [68, 52, 35, 204, 187, 17, 170, 102, 85] := fun _ => rfl
  have h9 : ∀ n, rc_run true pl (n + 1) [(7, 1, (upd B 0 (16 * B 3 + pl)))] [(12, (upd (upd B 0 (16 * B 3 + pl)) 2 (16 * (upd B 0 (16 * B 3 + pl)) 5 + pl))), (4, (upd (upd B 0 (16 * B 3 + pl)) 3 pl))] [68, 52, 35, 204, 187, 17, 170, 102, 85] = rc_run true pl n [(8, 1, (upd (upd B 0 (16 * B 3 + pl)) 4 pl))] [(12, (upd (upd B 0 (16 * B 3 + pl)) 2 (16 * (upd B 0 (16 * B 3 + pl)) 5 + pl))), (4, (upd (upd B 0 (16 * B 3 + pl)) 3 pl))] [120, 68, 52, 35, 204, 187, 17, 170, 102, 85] := fun _ => rfl
  have h10 : ∀ n, rc_run true pl (n + 1) [(8, 1, (upd (upd B 0 (16 * B 3 + pl)) 4 pl))] [(12, (upd (upd B 0 (16 * B 3 + pl)) 2 (16 * (upd B 0 (16 * B 3 + pl)) 5 + pl))), (4, (upd (upd B 0 (16 * B 3 + pl)) 3 pl))] [120, 68, 52, 35, 204, 187, 17, 170, 102, 85] = rc_run true pl n [] [(12, (upd (upd B 0 (16 * B 3 + pl)) 2 (16 * (upd B 0 (16 * B 3 + pl)) 5 + pl))), (4, (upd (upd B 0 (16 * B 3 + pl)) 3 pl)), (8, (upd (upd B 0 (16 * B 3 + pl)) 4 pl))] [136, 120, 68, 52, 35, 204, 187, 17, 170, 102, 85] := fun _ => rfl
  exact (h0 19).trans ((h1 18).trans ((h2 17).trans ((h3 16).trans ((h4 15).trans ((h5 14).trans ((h6 13).trans ((h7 12).trans ((h8 11).trans ((h9 10).trans ((h10 9).trans (rfl)))))))))))
theorem rc_run_0 (lz : Bool) (B : Nat → Int32) (pl : Int32) : ∃ sn, rc_run lz pl 20 [(5, 0, B)] [] [] = some (rc_thr lz (upd B 0 (16 * B 3 + pl)) pl, sn) := by
  cases lz
  · exact ⟨_, rc_run_0_f B pl⟩
  · exact ⟨_, rc_run_0_t B pl⟩
theorem rc_run_1_f (B : Nat → Int32) (pl : Int32) : rc_run false pl 20 [(9, 0, B)] [] [] = some (rc_thr false (upd B 1 (16 * B 4 + pl)) pl, [204, 187, 136, 120, 68, 52, 35, 17, 170, 153]) := by
  have h0 : ∀ n, rc_run false pl (n + 1) [(9, 0, B)] [] [] = rc_run false pl n [(10, 0, (upd B 1 (16 * B 4 + pl)))] [] [153] := fun _ => rfl
  have h1 : ∀ n, rc_run false pl (n + 1) [(10, 0, (upd B 1 (16 * B 4 + pl)))] [] [153] = rc_run false pl n [(1, 0, (upd B 1 (16 * B 4 + pl)))] [] [170, 153] := fun _ => rfl
  have h2 : ∀ n, rc_run false pl (n + 1) [(1, 0, (upd B 1 (16 * B 4 + pl)))] [] [170, 153] = rc_run false pl n [(2, 1, (upd B 1 (16 * B 4 + pl))), (11, 0, (upd B 1 (16 * B 4 + pl)))] [] [17, 170, 153] := fun _ => rfl
  have h3 : ∀ n, rc_run false pl (n + 1) [(2, 1, (upd B 1 (16 * B 4 + pl))), (11, 0, (upd B 1 (16 * B 4 + pl)))] [] [17, 170, 153] = rc_run false pl n [(3, 1, (upd B 1 (16 * B 4 + pl))), (7, 1, (upd B 1 (16 * B 4 + pl))), (11, 0, (upd B 1 (16 * B 4 + pl)))] [] [35, 17, 170, 153] := fun _ => rfl
  have h4 : ∀ n, rc_run false pl (n + 1) [(3, 1, (upd B 1 (16 * B 4 + pl))), (7, 1, (upd B 1 (16 * B 4 + pl))), (11, 0, (upd B 1 (16 * B 4 + pl)))] [] [35, 17, 170, 153] = rc_run false pl n [(4, 1, (upd (upd B 1 (16 * B 4 + pl)) 3 pl)), (7, 1, (upd B 1 (16 * B 4 + pl))), (11, 0, (upd B 1 (16 * B 4 + pl)))] [] [52, 35, 17, 170, 153] := fun _ => rfl
  have h5 : ∀ n, rc_run false pl (n + 1) [(4, 1, (upd (upd B 1 (16 * B 4 + pl)) 3 pl)), (7, 1, (upd B 1 (16 * B 4 + pl))), (11, 0, (upd B 1 (16 * B 4 + pl)))] [] [52, 35, 17, 170, 153] = rc_run false pl n [(7, 1, (upd B 1 (16 * B 4 + pl))), (11, 0, (upd B 1 (16 * B 4 + pl)))] [(4, (upd (upd B 1 (16 * B 4 + pl)) 3 pl))] [68, 52, 35, 17, 170, 153] := fun _ => rfl
  have h6 : ∀ n, rc_run false pl (n + 1) [(7, 1, (upd B 1 (16 * B 4 + pl))), (11, 0, (upd B 1 (16 * B 4 + pl)))] [(4, (upd (upd B 1 (16 * B 4 + pl)) 3 pl))] [68, 52, 35, 17, 170, 153] = rc_run false pl n [(8, 1, (upd (upd B 1 (16 * B 4 + pl)) 4 pl)), (11, 0, (upd B 1 (16 * B 4 + pl)))] [(4, (upd (upd B 1 (16 * B 4 + pl)) 3 pl))] [120, 68, 52, 35, 17, 170, 153] := fun _ => rfl
  have h7 : ∀ n, rc_run false pl (n + 1) [(8, 1, (upd (upd B 1 (16 * B 4 + pl)) 4 pl)), (11, 0, (upd B 1 (16 * B 4 + pl)))] [(4, (upd (upd B 1 (16 * B 4 + pl)) 3 pl))] [120, 68, 52, 35, 17, 170, 153] = rc_run false pl n [(11, 0, (upd B 1 (16 * B 4 + pl)))] [(4, (upd (upd B 1 (16 * B 4 + pl)) 3 pl)), (8, (upd (upd B 1 (16 * B 4 + pl)) 4 pl))] [136, 120, 68, 52, 35, 17, 170, 153] := fun _ => rfl
  have h8 : ∀ n, rc_run false pl (n + 1) [(11, 0, (upd B 1 (16 * B 4 + pl)))] [(4, (upd (upd B 1 (16 * B 4 + pl)) 3 pl)), (8, (upd (upd B 1 (16 * B 4 + pl)) 4 pl))] [136, 120, 68, 52, 35, 17, 170, 153] = rc_run false pl n [(12, 0, (upd (upd B 1 (16 * B 4 + pl)) 2 (16 * (upd B 1 (16 * B 4 + pl)) 5 + pl)))] [(4, (upd (upd B 1 (16 * B 4 + pl)) 3 pl)), (8, (upd (upd B 1 (16 * B 4 + pl)) 4 pl))] [187, 136, 120, 68, 52, 35, 17, 170, 153] := fun _ => rfl
  have h9 : ∀ n, rc_run false pl (n + 1) [(12, 0, (upd (upd B 1 (16 * B 4 + pl)) 2 (16 * (upd B 1 (16 * B 4 + pl)) 5 + pl)))] [(4, (upd (upd B 1 (16 * B 4 + pl)) 3 pl)), (8, (upd (upd B 1 (16 * B 4 + pl)) 4 pl))] [187, 136, 120, 68, 52, 35, 17, 170, 153] = rc_run false pl n [] [(4, (upd (upd B 1 (16 * B 4 + pl)) 3 pl)), (8, (upd (upd B 1 (16 * B 4 + pl)) 4 pl)), (12, (upd (upd B 1 (16 * B 4 + pl)) 2 (16 * (upd B 1 (16 * B 4 + pl)) 5 + pl)))] [204, 187, 136, 120, 68, 52, 35, 17, 170, 153] := fun _ => rfl
  exact (h0 19).trans ((h1 18).trans ((h2 17).trans ((h3 16).trans ((h4 15).trans ((h5 14).trans ((h6 13).trans ((h7 12).trans ((h8 11).trans ((h9 10).trans (rfl))))))))))
theorem rc_run_1_t (B : Nat → Int32) (pl : Int32) : rc_run true pl 20 [(9, 0, B)] [] [] = some (rc_thr true (upd B 1 (16 * B 4 + pl)) pl, [136, 120, 68, 52, 35, 204, 187, 17, 170, 153]) := by
  have h0 : ∀ n, rc_run true pl (n + 1) [(9, 0, B)] [] [] = rc_run true pl n [(10, 0, (upd B 1 (16 * B 4 + pl)))] [] [153] := fun _ => rfl
  have h1 : ∀ n, rc_run true pl (n + 1) [(10, 0, (upd B 1 (16 * B 4 + pl)))] [] [153] = rc_run true pl n [(1, 0, (upd B 1 (16 * B 4 + pl)))] [] [170, 153] := fun _ => rfl
  have h2 : ∀ n, rc_run true pl (n + 1) [(1, 0, (upd B 1 (16 * B 4 + pl)))] [] [170, 153] = rc_run true pl n [(11, 0, (upd B 1 (16 * B 4 + pl))), (2, 1, (upd B 1 (16 * B 4 + pl)))] [] [17, 170, 153] := fun _ => rfl
  have h3 : ∀ n, rc_run true pl (n + 1) [(11, 0, (upd B 1 (16 * B 4 + pl))), (2, 1, (upd B 1 (16 * B 4 + pl)))] [] [17, 170, 153] = rc_run true pl n [(12, 0, (upd (upd B 1 (16 * B 4 + pl)) 2 (16 * (upd B 1 (16 * B 4 + pl)) 5 + pl))), (2, 1, (upd B 1 (16 * B 4 + pl)))] [] [187, 17, 170, 153] := fun _ => rfl
  have h4 : ∀ n, rc_run true pl (n + 1) [(12, 0, (upd (upd B 1 (16 * B 4 + pl)) 2 (16 * (upd B 1 (16 * B 4 + pl)) 5 + pl))), (2, 1, (upd B 1 (16 * B 4 + pl)))] [] [187, 17, 170, 153] = rc_run true pl n [(2, 1, (upd B 1 (16 * B 4 + pl)))] [(12, (upd (upd B 1 (16 * B 4 + pl)) 2 (16 * (upd B 1 (16 * B 4 + pl)) 5 + pl)))] [204, 187, 17, 170, 153] := fun _ => rfl
  have h5 : ∀ n, rc_run true pl (n + 1) [(2, 1, (upd B 1 (16 * B 4 + pl)))] [(12, (upd (upd B 1 (16 * B 4 + pl)) 2 (16 * (upd B 1 (16 * B 4 + pl)) 5 + pl)))] [204, 187, 17, 170, 153] = rc_run true pl n [(3, 1, (upd B 1 (16 * B 4 + pl))), (7, 1, (upd B 1 (16 * B 4 + pl)))] [(12, (upd (upd B 1 (16 * B 4 + pl)) 2 (16 * (upd B 1 (16 * B 4 + pl)) 5 + pl)))] [35, 204, 187, 17, 170, 153] := fun _ => rfl
  have h6 : ∀ n, rc_run true pl (n + 1) [(3, 1, (upd B 1 (16 * B 4 + pl))), (7, 1, (upd B 1 (16 * B 4 + pl)))] [(12, (upd (upd B 1 (16 * B 4 + pl)) 2 (16 * (upd B 1 (16 * B 4 + pl)) 5 + pl)))] [35, 204, 187, 17, 170, 153] = rc_run true pl n [(4, 1, (upd (upd B 1 (16 * B 4 + pl)) 3 pl)), (7, 1, (upd B 1 (16 * B 4 + pl)))] [(12, (upd (upd B 1 (16 * B 4 + pl)) 2 (16 * (upd B 1 (16 * B 4 + pl)) 5 + pl)))] [52, 35, 204, 187, 17, 170, 153] := fun _ => rfl
  have h7 : ∀ n, rc_run true pl (n + 1) [(4, 1, (upd (upd B 1 (16 * B 4 + pl)) 3 pl)), (7, 1, (upd B 1 (16 * B 4 + pl)))] [(12, (upd (upd B 1 (16 * B 4 + pl)) 2 (16 * (upd B 1 (16 * B 4 + pl)) 5 + pl)))] [52, 35, 204, 187, 17, 170, 153] = rc_run true pl n [(7, 1, (upd B 1 (16 * B 4 + pl)))] [(12, (upd (upd B 1 (16 * B 4 + pl)) 2 (16 * (upd B 1 (16 * B 4 + pl)) 5 + pl))), (4, (upd (upd B 1 (16 * B 4 + pl)) 3 pl))] [68, 52, 35, 204, 187, 17, 170, 153] := fun _ => rfl
  have h8 : ∀ n, rc_run true pl (n + 1) [(7, 1, (upd B 1 (16 * B 4 + pl)))] [(12, (upd (upd B 1 (16 * B 4 + pl)) 2 (16 * (upd B 1 (16 * B 4 + pl)) 5 + pl))), (4, (upd (upd B 1 (16 * B 4 + pl)) 3 pl))] [68, 52, 35, 204, 187, 17, 170, 153] = rc_run true pl n [(8, 1, (upd (upd B 1 (16 * B 4 + pl)) 4 pl))] [(12, (upd (upd B 1 (16 * B 4 + pl)) 2 (16 * (upd B 1 (16 * B 4 + pl)) 5 + pl))), (4, (upd (upd B 1 (16 * B 4 + pl)) 3 pl))] [120, 68, 52, 35, 204, 187, 17, 170, 153] := fun _ => rfl
  have h9 : ∀ n, rc_run true pl (n + 1) [(8, 1, (upd (upd B 1 (16 * B 4 + pl)) 4 pl))] [(12, (upd (upd B 1 (16 * B 4 + pl)) 2 (16 * (upd B 1 (16 * B 4 + pl)) 5 + pl))), (4, (upd (upd B 1 (16 * B 4 + pl)) 3 pl))] [120, 68, 52, 35, 204, 187, 17, 170, 153] = rc_run true pl n [] [(12, (upd (upd B 1 (16 * B 4 + pl)) 2 (16 * (upd B 1 (16 * B 4 + pl)) 5 + pl))), (4, (upd (upd B 1 (16 * B 4 + pl)) 3 pl)), (8, (upd (upd B 1 (16 * B 4 + pl)) 4 pl))] [136, 120, 68, 52, 35, 204, 187, 17, 170, 153] := fun _ => rfl
  exact (h0 19).trans ((h1 18).trans ((h2 17).trans ((h3 16).trans ((h4 15).trans ((h5 14).trans ((h6 13).trans ((h7 12).trans ((h8 11).trans ((h9 10).trans (rfl))))))))))
theorem rc_run_1 (lz : Bool) (B : Nat → Int32) (pl : Int32) : ∃ sn, rc_run lz pl 20 [(9, 0, B)] [] [] = some (rc_thr lz (upd B 1 (16 * B 4 + pl)) pl, sn) := by
  cases lz
  · exact ⟨_, rc_run_1_f B pl⟩
  · exact ⟨_, rc_run_1_t B pl⟩
theorem rc_run_2_f (B : Nat → Int32) (pl : Int32) : rc_run false pl 20 [(13, 0, B)] [] [] = some ([(13, B)], [221]) := by
  have h0 : ∀ n, rc_run false pl (n + 1) [(13, 0, B)] [] [] = rc_run false pl n [] [(13, B)] [221] := fun _ => rfl
  exact (h0 19).trans (rfl)
theorem rc_run_2_t (B : Nat → Int32) (pl : Int32) : rc_run true pl 20 [(13, 0, B)] [] [] = some ([(13, B)], [221]) := by
  have h0 : ∀ n, rc_run true pl (n + 1) [(13, 0, B)] [] [] = rc_run true pl n [] [(13, B)] [221] := fun _ => rfl
  exact (h0 19).trans (rfl)
theorem rc_run_2 (lz : Bool) (B : Nat → Int32) (pl : Int32) : ∃ sn, rc_run lz pl 20 [(13, 0, B)] [] [] = some ([(13, B)], sn) := by
  cases lz
  · exact ⟨_, rc_run_2_f B pl⟩
  · exact ⟨_, rc_run_2_t B pl⟩
end
section
theorem rc_st_run (lz ok : Bool) (pl : Int32) (c : Nat) (pc : Nat) (nt : Nat → Int32) (r nx nx' : List (Nat × (Nat → Int32))) (sn sn' : List Nat) (h1 : (Nat.blt pc 13 && Nat.beq (rc_code lz pc) 0 && Nat.blt (rc_x pc) 3) = true) (h2 : Nat.beq (rc_x pc) c = true) (h3 : rc_run lz (pl + 1) 20 [(pc + 1, 0, nt)] nx sn = some (nx', sn')) :
    rc_st lz pl ok (some c) ((pc, nt) :: r) nx sn = rc_st lz pl ok (some c) r nx' sn' := by
  show cond (Nat.blt pc 13 && Nat.beq (rc_code lz pc) 0 && Nat.blt (rc_x pc) 3) (cond (Nat.beq (rc_x pc) c) (match rc_run lz (pl + 1) 20 [(pc + 1, 0, nt)] nx sn with | none => none | some z => rc_st lz pl ok (some c) r z.1 z.2) (rc_st lz pl ok (some c) r nx sn)) _ = _
  rw [h1, h2, h3]
  rfl
theorem rc_st_skip (lz ok : Bool) (pl : Int32) (c : Nat) (pc : Nat) (nt : Nat → Int32) (r nx : List (Nat × (Nat → Int32))) (sn : List Nat) (h1 : (Nat.blt pc 13 && Nat.beq (rc_code lz pc) 0 && Nat.blt (rc_x pc) 3) = true) (h2 : Nat.beq (rc_x pc) c = false) :
    rc_st lz pl ok (some c) ((pc, nt) :: r) nx sn = rc_st lz pl ok (some c) r nx sn := by
  show cond (Nat.blt pc 13 && Nat.beq (rc_code lz pc) 0 && Nat.blt (rc_x pc) 3) (cond (Nat.beq (rc_x pc) c) (match rc_run lz (pl + 1) 20 [(pc + 1, 0, nt)] nx sn with | none => none | some z => rc_st lz pl ok (some c) r z.1 z.2) (rc_st lz pl ok (some c) r nx sn)) _ = _
  rw [h1, h2]
  rfl
theorem rc_st_0 (lz ok : Bool) (B : Nat → Int32) (pl : Int32) : rc_st lz pl ok (some 0) (rc_thr lz B pl) [] [] = some (none, rc_thr lz (upd (upd B 3 pl) 0 (16 * upd B 3 pl 3 + (pl + 1))) (pl + 1)) := by
  obtain ⟨sn, h⟩ := rc_run_0 lz (upd B 3 pl) (pl + 1)
  cases lz
  · exact (rc_st_run false ok pl 0 4 _ _ _ _ _ _ rfl rfl h).trans ((rc_st_skip false ok pl 0 8 _ _ _ _ rfl rfl).trans ((rc_st_skip false ok pl 0 12 _ _ _ _ rfl rfl).trans rfl))
  · exact (rc_st_skip true ok pl 0 12 _ _ _ _ rfl rfl).trans ((rc_st_run true ok pl 0 4 _ _ _ _ _ _ rfl rfl h).trans ((rc_st_skip true ok pl 0 8 _ _ _ _ rfl rfl).trans rfl))
theorem rc_st_1 (lz ok : Bool) (B : Nat → Int32) (pl : Int32) : rc_st lz pl ok (some 1) (rc_thr lz B pl) [] [] = some (none, rc_thr lz (upd (upd B 4 pl) 1 (16 * upd B 4 pl 4 + (pl + 1))) (pl + 1)) := by
  obtain ⟨sn, h⟩ := rc_run_1 lz (upd B 4 pl) (pl + 1)
  cases lz
  · exact (rc_st_skip false ok pl 1 4 _ _ _ _ rfl rfl).trans ((rc_st_run false ok pl 1 8 _ _ _ _ _ _ rfl rfl h).trans ((rc_st_skip false ok pl 1 12 _ _ _ _ rfl rfl).trans rfl))
  · exact (rc_st_skip true ok pl 1 12 _ _ _ _ rfl rfl).trans ((rc_st_skip true ok pl 1 4 _ _ _ _ rfl rfl).trans ((rc_st_run true ok pl 1 8 _ _ _ _ _ _ rfl rfl h).trans rfl))
theorem rc_st_2 (lz ok : Bool) (B : Nat → Int32) (pl : Int32) : rc_st lz pl ok (some 2) (rc_thr lz B pl) [] [] = some (none, [(13, upd B 2 (16 * B 5 + pl))]) := by
  obtain ⟨sn, h⟩ := rc_run_2 lz (upd B 2 (16 * B 5 + pl)) (pl + 1)
  cases lz
  · exact (rc_st_skip false ok pl 2 4 _ _ _ _ rfl rfl).trans ((rc_st_skip false ok pl 2 8 _ _ _ _ rfl rfl).trans ((rc_st_run false ok pl 2 12 _ _ _ _ _ _ rfl rfl h).trans rfl))
  · exact (rc_st_run true ok pl 2 12 _ _ _ _ _ _ rfl rfl h).trans ((rc_st_skip true ok pl 2 4 _ _ _ _ rfl rfl).trans ((rc_st_skip true ok pl 2 8 _ _ _ _ rfl rfl).trans rfl))
theorem rc_st_n (lz ok : Bool) (B : Nat → Int32) (pl : Int32) : rc_st lz pl ok none (rc_thr lz B pl) [] [] = some (none, []) := by
  cases lz <;> rfl
theorem rc_st_d (lz ok : Bool) (nt : Nat → Int32) (pl : Int32) (ch : Option Nat) : rc_st lz pl ok ch [(13, nt)] [] [] = some (cond ok (some nt) none, []) := by
  cases lz <;> cases ok <;> rfl
end
section
section
variable {vh vm vl vz vn vc vd vw ve : Int32} {a1 a2 a3 a4 a5 a6 a7 a8 a9 a10 a11 a12 a13 a14 a15 a16 a17 a18 a19 : Nat → Int32}
theorem rc_push22 {post : St2 → Prop} {q : Nat} (hq : q < 640) (hw : vw = nI q)
    (H : ∀ s, (∀ k, k < 6 → s (q * 6 + k) = a18 k) → (∀ j, j < q * 6 → s j = a17 j) → post (vh, vm, vl, vz, vn, vc, vd, nI (q + 1), ve, a1, a2, a3, a4, a5, a6, a7, a8, a9, a10, a11, a12, a13, a14, a15, a16, s, a18, a19)) :
    ∃ n, wX_push_22 post vh vm vl vz vn vc vd vw ve n 0 a1 a2 a3 a4 a5 a6 a7 a8 a9 a10 a11 a12 a13 a14 a15 a16 a17 a18 a19 := by
  subst hw
  refine pk_loop (fun n i s => wX_push_22 post vh vm vl vz vn vc vd (nI q) ve n (nI i) a1 a2 a3 a4 a5 a6 a7 a8 a9 a10 a11 a12 a13 a14 a15 a16 s a18 a19) (fun i s => (∀ k, k < i → s (q * 6 + k) = a18 k) ∧ (∀ j, j < q * 6 → s j = a17 j)) 6 0 a17 (by omega) ⟨fun k hk => absurd hk (by omega), fun _ _ => rfl⟩ ?_ ?_
  · intro n s h
    exact pk_le 6 6 (fun _ => nm_r (nI_1 q) (H s h.1 h.2)) (fun z => absurd z (by omega))
  · intro n i s hi h hw
    have e1 : nI q * 6 + nI i = nI (q * 6 + i) := by rw [show (6 : Int32) = nI 6 from rfl, pk_mul, nI_add]
    exact pk_le 6 i (fun z => absurd z (by omega)) (fun _ => ⟨pk_in i 6 hi, pk_in (q * 6 + i) 3840 (by omega) e1, nm_e (nm_r (nI_1 i) (hw _ ⟨rc_fill (pk_cl (q * 6 + i) e1) (by rw [nI_clamp (by omega)]) h.1, rc_keep (by rw [pk_cl (q * 6 + i) e1]; omega) h.2⟩))⟩)
theorem rc_push {post : St2 → Prop} (r : List (Nat × Nat × (Nat → Int32))) (pc id : Nat) (nt : Nat → Int32) {p0 p1 : Int32} (h0 : p0 = nI pc) (h1 : p1 = nI id) (hw : vw = nI r.length) (hr : r.length < 640) (hs : rc_sk a15 a16 a17 r) (hn : ∀ k, k < 6 → a18 k = nt k)
    (H : ∀ b15 b16 b17, rc_sk b15 b16 b17 ((pc, id, nt) :: r) → post (vh, vm, vl, vz, vn, vc, vd, nI (r.length + 1), ve, a1, a2, a3, a4, a5, a6, a7, a8, a9, a10, a11, a12, a13, a14, b15, b16, b17, a18, a19)) :
    wpX_push post (vh, vm, vl, vz, vn, vc, vd, vw, ve, a1, a2, a3, a4, a5, a6, a7, a8, a9, a10, a11, a12, a13, a14, a15, a16, a17, a18, a19) p0 p1 := by
  subst hw h0 h1
  have hc : (nI r.length).toNatClampNeg = r.length := nI_clamp (by omega)
  refine And.intro (pk_in r.length 640 hr) (nm_r (by rw [hc]) (And.intro (pk_in r.length 640 hr) (nm_r (by rw [hc]) (rc_push22 hr rfl ?_))))
  intro s g1 g2
  refine H _ _ _ ⟨pk_us, pk_us, fun k hk => (g1 k hk).trans (hn k hk), ?_⟩
  exact rc_sk_fr r (rc_keepU (Nat.le_refl _)) (rc_keepU (Nat.le_refl _)) g2 hs
theorem rc_goOn228 {post : St2 → Prop} {q : Nat} (hq : q < 64) (hd : vd = nI q)
    (H : ∀ s, (∀ k, k < 6 → s (q * 6 + k) = a18 k) → (∀ j, j < q * 6 → s j = a13 j) → post (vh, vm, vl, vz, vn, vc, nI (q + 1), vw, ve, a1, a2, a3, a4, a5, a6, a7, a8, a9, a10, a11, a12, s, a14, a15, a16, a17, a18, a19)) :
    ∃ n, wX_goOn_228 post vh vm vl vz vn vc vd vw ve n 0 a1 a2 a3 a4 a5 a6 a7 a8 a9 a10 a11 a12 a13 a14 a15 a16 a17 a18 a19 := by
  subst hd
  refine pk_loop (fun n i s => wX_goOn_228 post vh vm vl vz vn vc (nI q) vw ve n (nI i) a1 a2 a3 a4 a5 a6 a7 a8 a9 a10 a11 a12 s a14 a15 a16 a17 a18 a19) (fun i s => (∀ k, k < i → s (q * 6 + k) = a18 k) ∧ (∀ j, j < q * 6 → s j = a13 j)) 6 0 a13 (by omega) ⟨fun k hk => absurd hk (by omega), fun _ _ => rfl⟩ ?_ ?_
  · intro n s h
    exact pk_le 6 6 (fun _ => nm_r (nI_1 q) (H s h.1 h.2)) (fun z => absurd z (by omega))
  · intro n i s hi h hw
    have e1 : nI q * 6 + nI i = nI (q * 6 + i) := by rw [show (6 : Int32) = nI 6 from rfl, pk_mul, nI_add]
    exact pk_le 6 i (fun z => absurd z (by omega)) (fun _ => ⟨pk_in i 6 hi, pk_in (q * 6 + i) 384 (by omega) e1, nm_e (nm_r (nI_1 i) (hw _ ⟨rc_fill (pk_cl (q * 6 + i) e1) (by rw [nI_clamp (by omega)]) h.1, rc_keep (by rw [pk_cl (q * 6 + i) e1]; omega) h.2⟩))⟩)
theorem rc_codes (lz : Bool) (pc : Nat) : rc_code lz pc = 0 ∨ rc_code lz pc = 1 ∨ rc_code lz pc = 2 ∨ rc_code lz pc = 3 ∨ rc_code lz pc = 4 ∨ rc_code lz pc = 5 ∨ rc_code lz pc = 6 ∨ rc_code lz pc = 7 := by
  cases lz <;> (unfold rc_code; split <;> simp)
theorem rc_x6 (lz : Bool) (pc : Nat) (h : rc_code lz pc = 3) : rc_x pc < 6 := by
  cases lz <;> (unfold rc_code at h; split at h <;> first | (simp at h; done) | decide)
theorem rc_goOn {post : St2 → Prop} (lz : Bool) (pl : Int32) (pc id : Nat) (nt : Nat → Int32) (r : List (Nat × Nat × (Nat → Int32))) (nx : List (Nat × (Nat → Int32)))
    (hp : rc_prog lz a6 a7 a8) (hpc : pc < 14) (hid : id < 16) (hw : vw = nI r.length) (hr : r.length < 630) (hd : vd = nI nx.length) (hnx : nx.length < 60)
    (hs : rc_sk a15 a16 a17 r) (hx : rc_tn a12 a13 nx) (hn : ∀ k, k < 6 → a18 k = nt k)
    (H : ∀ w d b12 b13 b15 b16 b17 b18, w = nI (rc_go lz pl pc id nt r nx).1.length → d = nI (rc_go lz pl pc id nt r nx).2.length → rc_sk b15 b16 b17 (rc_go lz pl pc id nt r nx).1 → rc_tn b12 b13 (rc_go lz pl pc id nt r nx).2 → post (vh, vm, vl, vz, vn, vc, d, w, ve, a1, a2, a3, a4, a5, a6, a7, a8, a9, a10, a11, b12, b13, a14, b15, b16, b17, b18, a19)) :
    wpX_goOn post (vh, vm, vl, vz, vn, vc, vd, vw, ve, a1, a2, a3, a4, a5, a6, a7, a8, a9, a10, a11, a12, a13, a14, a15, a16, a17, a18, a19) (nI pc) pl (nI id) := by
  obtain ⟨h6, h7, h7', h8⟩ := hp pc hpc
  have hcl : (nI pc).toNatClampNeg = pc := nI_clamp (by omega)
  have hin : vp_in (nI pc) 64 := pk_in pc 64 (by omega)
  refine And.intro hin (nm_r (e' := nI (rc_code lz pc)) (by rw [hcl]; exact h6) ?_)
  rcases rc_codes lz pc with hc | hc | hc | hc | hc | hc | hc | hc
  · have hg : rc_go lz pl pc id nt r nx = (r, nx ++ [(pc, nt)]) := by simp only [rc_go, hc]
    rw [hg] at H
    rw [hc]
    refine br_f (by decide) (br_f (by decide) (br_f (by decide) (br_f (by decide) (br_f (by decide) ?_))))
    refine br_f (by decide) (br_f (by decide) (And.intro (pk_in nx.length 64 (by omega) hd) (nm_r (by rw [hd, nI_clamp (by omega)]) (rc_goOn228 (by omega) hd ?_))))
    intro s g1 g2
    exact H _ _ _ _ _ _ _ _ hw (by simp) hs (rc_tn_add hx (rc_keepU (Nat.le_refl _)) g2 pk_us (fun k hk => (g1 k hk).trans (hn k hk)))
  · have hg : rc_go lz pl pc id nt r nx = ((rc_x pc, id, nt) :: (rc_y pc, id, nt) :: r, nx) := by simp only [rc_go, hc]
    rw [hg] at H
    rw [hc]
    refine br_t (by decide) (And.intro hin (rc_push r (rc_y pc) id nt (by rw [hcl]; exact h8 (by omega)) rfl hw (by omega) hs hn ?_))
    intro b15 b16 b17 hs'
    refine And.intro hin (rc_push _ (rc_x pc) id nt (by rw [hcl]; exact h7' (by omega)) rfl rfl (by show r.length + 1 < 640; omega) hs' hn ?_)
    intro c15 c16 c17 hs''
    exact H _ _ _ _ _ _ _ _ rfl hd hs'' hx
  · have hg : rc_go lz pl pc id nt r nx = ((rc_x pc, id, nt) :: r, nx) := by simp only [rc_go, hc]
    rw [hg] at H
    rw [hc]
    refine br_f (by decide) (br_f (by decide) (br_f (by decide) (br_t (by decide) (And.intro hin (rc_push r (rc_x pc) id nt (by rw [hcl]; exact h7' (by omega)) rfl hw (by omega) hs hn ?_)))))
    intro b15 b16 b17 hs'
    exact H _ _ _ _ _ _ _ _ rfl hd hs' hx
  · have hg : rc_go lz pl pc id nt r nx = ((pc + 1, id, cond (Nat.ble 3 (rc_x pc)) (upd nt (rc_x pc) pl) (upd nt (rc_x pc) (16 * nt (rc_x pc + 3) + pl))) :: r, nx) := by simp only [rc_go, hc]
    rw [hg] at H
    rw [hc]
    have hx6 : rc_x pc < 6 := rc_x6 lz pc hc
    refine br_f (by decide) (br_f (by decide) (br_f (by decide) (br_f (by decide) (br_f (by decide) ?_))))
    refine br_f (by decide) (br_t (by decide) (And.intro hin (nm_r (e' := nI (rc_x pc)) (by rw [hcl]; exact h7 (by omega)) ?_)))
    have key : ∀ v : Int32, (cond (Nat.ble 3 (rc_x pc)) (upd nt (rc_x pc) pl) (upd nt (rc_x pc) (16 * nt (rc_x pc + 3) + pl)) = upd nt (rc_x pc) v) → wX_goOn_203 post (nI pc) (nI id) v (nI (rc_x pc)) vh vm vl vz vn vc vd vw ve a1 a2 a3 a4 a5 a6 a7 a8 a9 a10 a11 a12 a13 a14 a15 a16 a17 a18 a19 := by
      intro v hv
      refine And.intro (pk_in (rc_x pc) 6 hx6) (nm_r (e' := upd a18 (rc_x pc) v) (by rw [nI_clamp (by omega)]) ?_)
      refine rc_push r (pc + 1) id (upd nt (rc_x pc) v) (nI_1 pc) rfl hw (by omega) hs ?_ ?_
      · intro k hk
        by_cases e : k = rc_x pc
        · rw [e, pk_us, pk_us]
        · rw [pk_un e, pk_un e]; exact hn k hk
      · intro b15 b16 b17 hs'
        rw [hv] at H
        exact H _ _ _ _ _ _ _ _ rfl hd hs' hx
    refine pk_lt (rc_x pc) 3 (fun z => ⟨pk_in (rc_x pc + 3) 6 (by omega) (nI_add _ 3), ?_⟩) (fun z => ?_)
    · have e3 : (nI (rc_x pc) + 3).toNatClampNeg = rc_x pc + 3 := pk_cl _ (nI_add _ 3)
      rw [e3, hn _ (by omega)]
      refine key _ ?_
      have : Nat.ble 3 (rc_x pc) = false := by
        cases hb : Nat.ble 3 (rc_x pc)
        · rfl
        · exact absurd (Nat.le_of_ble_eq_true hb) (by omega)
      rw [this]; rfl
    · refine key _ ?_
      rw [Nat.ble_eq_true_of_le z]; rfl
  · have hg : rc_go lz pl pc id nt r nx = (r, nx ++ [(pc, nt)]) := by simp only [rc_go, hc]
    rw [hg] at H
    rw [hc]
    refine br_f (by decide) (br_f (by decide) (br_f (by decide) (br_f (by decide) (br_f (by decide) ?_))))
    refine br_f (by decide) (br_f (by decide) (And.intro (pk_in nx.length 64 (by omega) hd) (nm_r (by rw [hd, nI_clamp (by omega)]) (rc_goOn228 (by omega) hd ?_))))
    intro s g1 g2
    exact H _ _ _ _ _ _ _ _ hw (by simp) hs (rc_tn_add hx (rc_keepU (Nat.le_refl _)) g2 pk_us (fun k hk => (g1 k hk).trans (hn k hk)))
  · have hg : rc_go lz pl pc id nt r nx = ((rc_x pc, id + 1, nt) :: (rc_y pc, id, nt) :: r, nx) := by simp only [rc_go, hc]
    rw [hg] at H
    rw [hc]
    refine br_f (by decide) (br_t (by decide) (And.intro hin (rc_push r (rc_y pc) id nt (by rw [hcl]; exact h8 (by omega)) rfl hw (by omega) hs hn ?_)))
    intro b15 b16 b17 hs'
    refine And.intro hin (rc_push _ (rc_x pc) (id + 1) nt (by rw [hcl]; exact h7' (by omega)) (nI_1 id) rfl (by show r.length + 1 < 640; omega) hs' hn ?_)
    intro c15 c16 c17 hs''
    exact H _ _ _ _ _ _ _ _ rfl hd hs'' hx
  · have hg : rc_go lz pl pc id nt r nx = ((rc_y pc, id, nt) :: (rc_x pc, id + 1, nt) :: r, nx) := by simp only [rc_go, hc]
    rw [hg] at H
    rw [hc]
    refine br_f (by decide) (br_f (by decide) (br_t (by decide) (And.intro hin (rc_push r (rc_x pc) (id + 1) nt (by rw [hcl]; exact h7' (by omega)) (nI_1 id) hw (by omega) hs hn ?_))))
    intro b15 b16 b17 hs'
    refine And.intro hin (rc_push _ (rc_y pc) id nt (by rw [hcl]; exact h8 (by omega)) rfl rfl (by show r.length + 1 < 640; omega) hs' hn ?_)
    intro c15 c16 c17 hs''
    exact H _ _ _ _ _ _ _ _ rfl hd hs'' hx
  · rw [hc]
    refine br_f (by decide) (br_f (by decide) (br_f (by decide) (br_f (by decide) (br_t (by decide) ?_))))
    cases id with
    | zero =>
      have hg : rc_go lz pl pc 0 nt r nx = ((rc_x pc, 0, nt) :: r, nx) := by simp only [rc_go, hc]
      rw [hg] at H
      refine br_t (by decide) (And.intro hin (rc_push r (rc_x pc) 0 nt (by rw [hcl]; exact h7' (by omega)) rfl hw (by omega) hs hn ?_))
      intro b15 b16 b17 hs'
      exact H _ _ _ _ _ _ _ _ rfl hd hs' hx
    | succ i =>
      have hg : rc_go lz pl pc (i + 1) nt r nx = (r, nx) := by simp only [rc_go, hc]
      rw [hg] at H
      refine br_f (nI_ne0 (by omega) (by omega)) (br_t (by decide) ?_)
      exact H _ _ _ _ _ _ _ _ hw hd hs hx
theorem rc_f94 {post : St2 → Prop} {J : Int32 → Int32 → Int32 → Int32 → Int32 → Int32 → Int32 → Int32 → Int32 → Int32 → (Nat → Int32) → (Nat → Int32) → (Nat → Int32) → (Nat → Int32) → (Nat → Int32) → (Nat → Int32) → (Nat → Int32) → (Nat → Int32) → (Nat → Int32) → (Nat → Int32) → (Nat → Int32) → (Nat → Int32) → (Nat → Int32) → (Nat → Int32) → (Nat → Int32) → (Nat → Int32) → (Nat → Int32) → (Nat → Int32) → (Nat → Int32) → Prop} (lz : Bool) (pl : Int32) (pc id : Nat) (nt : Nat → Int32) (r : List (Nat × Nat × (Nat → Int32))) (nx : List (Nat × (Nat → Int32))) (sn : List Nat) (rd mk : Nat) {x6 : Int32} (h6 : x6 = nI mk)
    (hp : rc_prog lz a6 a7 a8) (hpc : pc < 14) (hid : id < 16) (hw : vw = nI r.length) (hr : r.length < 630) (hd : vd = nI nx.length) (hnx : nx.length < 60)
    (hs : rc_sk a15 a16 a17 r) (hx : rc_tn a12 a13 nx) (ht : ∀ k, k < 6 → a17 (r.length * 6 + k) = nt k) (hm : mk < 1088) (hsn : rc_sn a14 sn)
    (H1 : rc_mem mk sn = true → ∀ b18, J (nI (rd + 1)) vh vm vl vz vn vc vd vw ve a1 a2 a3 a4 a5 a6 a7 a8 a9 a10 a11 a12 a13 a14 a15 a16 a17 b18 a19)
    (H2 : rc_mem mk sn = false → ∀ w d b12 b13 b14 b15 b16 b17 b18, w = nI (rc_go lz pl pc id nt r nx).1.length → d = nI (rc_go lz pl pc id nt r nx).2.length → rc_sk b15 b16 b17 (rc_go lz pl pc id nt r nx).1 → rc_tn b12 b13 (rc_go lz pl pc id nt r nx).2 → rc_sn b14 (mk :: sn) → J (nI (rd + 1)) vh vm vl vz vn vc d w ve a1 a2 a3 a4 a5 a6 a7 a8 a9 a10 a11 b12 b13 b14 b15 b16 b17 b18 a19) :
    ∃ n, wX_follow_94 post J pl (nI rd) (nI pc) (nI id) x6 vh vm vl vz vn vc vd vw ve n 0 a1 a2 a3 a4 a5 a6 a7 a8 a9 a10 a11 a12 a13 a14 a15 a16 a17 a18 a19 := by
  subst h6
  refine pk_loop (fun n i s => wX_follow_94 post J pl (nI rd) (nI pc) (nI id) (nI mk) vh vm vl vz vn vc vd vw ve n (nI i) a1 a2 a3 a4 a5 a6 a7 a8 a9 a10 a11 a12 a13 a14 a15 a16 a17 s a19) (fun i s => ∀ k, k < i → s k = nt k) 6 0 a18 (by omega) (fun k hk => absurd hk (by omega)) ?_ ?_
  · intro n s h
    have hmc : (nI mk).toNatClampNeg = mk := nI_clamp (by omega)
    refine pk_le 6 6 (fun _ => And.intro (pk_in mk 1088 hm) ?_) (fun z => absurd z (by omega))
    rw [hmc]
    refine br_c (fun z => And.intro (pk_in mk 1088 hm) (nm_e ?_)) (fun z => nm_r (nI_1 rd) ?_)
    · refine rc_goOn lz pl pc id nt r nx hp hpc hid hw hr hd hnx hs hx h ?_
      intro w d b12 b13 b15 b16 b17 b18 q1 q2 q3 q4
      exact nm_r (nI_1 rd) (H2 ((hsn mk hm).mp z) w d b12 b13 _ b15 b16 b17 b18 q1 q2 q3 q4 (rc_sn_add hsn))
    · refine H1 ?_ s
      cases hb : rc_mem mk sn
      · exact absurd ((hsn mk hm).mpr hb) z
      · rfl
  · intro n i s hi h hW
    have e1 : vw * 6 + nI i = nI (r.length * 6 + i) := by rw [hw, show (6 : Int32) = nI 6 from rfl, pk_mul, nI_add]
    exact pk_le 6 i (fun z => absurd z (by omega)) (fun _ => ⟨pk_in (r.length * 6 + i) 3840 (by omega) e1, pk_in i 6 hi, nm_e (nm_r (nI_1 i) (hW _ (rc_fill0 (nI_clamp (by omega)) (by rw [pk_cl _ e1]; exact ht i hi) h)))⟩)
theorem rc_okD {pc id : Nat} {r : List (Nat × Nat × (Nat → Int32))} {nx : List (Nat × (Nat → Int32))} (h : rc_ok pc id r nx = true) : pc < 14 ∧ id < 16 ∧ r.length < 630 ∧ nx.length < 60 := by
  have hb : ∀ a b : Nat, Nat.blt a b = true → a < b := fun a b z => Nat.le_of_ble_eq_true z
  unfold rc_ok at h
  simp only [Bool.and_eq_true] at h
  exact ⟨hb _ _ h.1.1.1, hb _ _ h.1.1.2, hb _ _ h.1.2, hb _ _ h.2⟩
theorem rc_mkE (lz : Bool) (pc id : Nat) : rc_mk lz pc id = (if rc_code lz pc = 0 ∨ rc_code lz pc = 4 then pc * 17 else pc * 17 + id) := by
  unfold rc_mk
  rcases rc_codes lz pc with hc | hc | hc | hc | hc | hc | hc | hc <;> simp [hc]
theorem rc_fol {post : St2 → Prop} (lz : Bool) (pl : Int32) (nx' : List (Nat × (Nat → Int32))) (sn' : List Nat) (hp : rc_prog lz a6 a7 a8)
    (H : ∀ b12 b13 b14 b15 b16 b17 b18, rc_tn b12 b13 nx' → rc_sn b14 sn' → post (vh, vm, vl, vz, vn, vc, nI nx'.length, 0, ve, a1, a2, a3, a4, a5, a6, a7, a8, a9, a10, a11, b12, b13, b14, b15, b16, b17, b18, a19)) :
    ∀ (fu : Nat) (stk : List (Nat × Nat × (Nat → Int32))) (nx : List (Nat × (Nat → Int32))) (sn : List Nat) (rd : Nat) (w d : Int32) (b12 b13 b14 b15 b16 b17 b18 : Nat → Int32), rc_run lz pl fu stk nx sn = some (nx', sn') → rd + fu ≤ 1300 → w = nI stk.length → d = nI nx.length → rc_sk b15 b16 b17 stk → rc_tn b12 b13 nx → rc_sn b14 sn →
      wX_follow_2 post pl fu (nI rd) vh vm vl vz vn vc d w ve a1 a2 a3 a4 a5 a6 a7 a8 a9 a10 a11 b12 b13 b14 b15 b16 b17 b18 a19 := by
  intro fu
  induction fu with
  | zero =>
    intro stk nx sn rd w d b12 b13 b14 b15 b16 b17 b18 hr
    exact absurd hr (by simp [rc_run])
  | succ n ih =>
    intro stk nx sn rd w d b12 b13 b14 b15 b16 b17 b18 hr hrd hw hd hs hx hsn
    cases stk with
    | nil =>
      have e : some (nx, sn) = some (nx', sn') := hr
      injection e with e
      injection e with e1 e2
      subst e1 e2 hd
      have hw' : w = 0 := hw
      subst hw'
      exact pk_le 1300 rd (fun z => absurd z (by omega)) (fun _ => br_t (by decide) (H _ _ _ _ _ _ _ hx hsn))
    | cons t r =>
      have hr' : cond (rc_ok t.1 t.2.1 r nx) (cond (rc_mem (rc_mk lz t.1 t.2.1) sn) (rc_run lz pl n r nx sn) (rc_run lz pl n (rc_go lz pl t.1 t.2.1 t.2.2 r nx).1 (rc_go lz pl t.1 t.2.1 t.2.2 r nx).2 (rc_mk lz t.1 t.2.1 :: sn))) none = some (nx', sn') := hr
      cases ho : rc_ok t.1 t.2.1 r nx with
      | false => rw [ho] at hr'; exact absurd hr' (by simp)
      | true =>
        rw [ho] at hr'
        obtain ⟨o1, o2, o3, o4⟩ := rc_okD ho
        obtain ⟨s1, s2, s3, s4⟩ := hs
        have hc15 : (nI r.length).toNatClampNeg = r.length := nI_clamp (by omega)
        have hcpc : (nI t.1).toNatClampNeg = t.1 := nI_clamp (by omega)
        have h6 := (hp t.1 o1).1
        have hin : vp_in (nI r.length) 640 := pk_in r.length 640 (by omega)
        have hip : vp_in (nI t.1) 64 := pk_in t.1 64 (by omega)
        have hmk := rc_mkE lz t.1 t.2.1
        have hml : rc_mk lz t.1 t.2.1 < 1088 := by
          rw [hmk]; split <;> omega
        have key : ∀ x6, x6 = nI (rc_mk lz t.1 t.2.1) → ∃ n', wX_follow_94 post (wX_follow_2 post pl n) pl (nI rd) (nI t.1) (nI t.2.1) x6 vh vm vl vz vn vc d (nI r.length) ve n' 0 a1 a2 a3 a4 a5 a6 a7 a8 a9 a10 a11 b12 b13 b14 b15 b16 b17 b18 a19 := by
          intro x6 hx6
          refine rc_f94 lz pl t.1 t.2.1 t.2.2 r nx sn rd (rc_mk lz t.1 t.2.1) hx6 hp o1 o2 rfl o3 hd o4 s4 hx s3 hml hsn ?_ ?_
          · intro hm c18
            rw [hm] at hr'
            exact ih r nx sn (rd + 1) _ _ _ _ _ _ _ _ _ hr' (by omega) rfl hd s4 hx hsn
          · intro hm w' d' c12 c13 c14 c15 c16 c17 c18 q1 q2 q3 q4 q5
            rw [hm] at hr'
            exact ih _ _ _ (rd + 1) _ _ _ _ _ _ _ _ _ hr' (by omega) q1 q2 q3 q4 q5
        have hw1 : w - 1 = nI r.length := by rw [hw]; exact nI_pred r.length
        have hw0 : ¬ w ≤ 0 := by rw [hw]; exact nI_nle (by show 0 < r.length + 1; omega) (by show r.length + 1 < 2 ^ 31; omega)
        have e17 : nI t.1 * 17 = nI (t.1 * 17) := pk_mul t.1 17
        refine pk_le 1300 rd (fun z => absurd z (by omega)) (fun _ => br_f hw0 (nm_r hw1 (And.intro hin (nm_r (e' := nI t.1) (by rw [hc15]; exact s1) (And.intro hin (nm_r (e' := nI t.2.1) (by rw [hc15]; exact s2) (And.intro hip ?_)))))))
        rw [hcpc, h6]
        by_cases c0 : rc_code lz t.1 = 0
        · rw [c0]
          refine br_t (by decide) (br_f (by decide) (fun x ex => key x ?_))
          rw [ex, hmk, if_pos (Or.inl c0), e17]
          exact nI_add _ 0
        · by_cases c4 : rc_code lz t.1 = 4
          · rw [c4]
            refine br_f (by decide) (And.intro hip (br_t (by decide) (br_f (by decide) (fun x ex => key x ?_))))
            rw [ex, hmk, if_pos (Or.inr c4), e17]
            exact nI_add _ 0
          · have hlt : rc_code lz t.1 < 2 ^ 31 := by
              rcases rc_codes lz t.1 with hc | hc | hc | hc | hc | hc | hc | hc <;> omega
            refine br_f (fun z => c0 ((nI_eq hlt (by omega)).mp z)) (And.intro hip (br_f (fun z => c4 ((nI_eq hlt (by omega)).mp z)) (br_t rfl (fun x ex => key x ?_))))
            rw [ex, hmk, if_neg (by omega), e17, nI_add]
theorem rc_follow {post : St2 → Prop} (lz : Bool) {pl : Int32} (fu : Nat) {stk : List (Nat × Nat × (Nat → Int32))} {nx nx' : List (Nat × (Nat → Int32))} {sn sn' : List Nat} (hp : rc_prog lz a6 a7 a8)
    (hr : rc_run lz pl fu stk nx sn = some (nx', sn')) (hfu : fu ≤ 1300) (hw : vw = nI stk.length) (hd : vd = nI nx.length) (hs : rc_sk a15 a16 a17 stk) (hx : rc_tn a12 a13 nx) (hsn : rc_sn a14 sn)
    (H : ∀ b12 b13 b14 b15 b16 b17 b18, rc_tn b12 b13 nx' → rc_sn b14 sn' → post (vh, vm, vl, vz, vn, vc, nI nx'.length, 0, ve, a1, a2, a3, a4, a5, a6, a7, a8, a9, a10, a11, b12, b13, b14, b15, b16, b17, b18, a19)) :
    wpX_follow post (vh, vm, vl, vz, vn, vc, vd, vw, ve, a1, a2, a3, a4, a5, a6, a7, a8, a9, a10, a11, a12, a13, a14, a15, a16, a17, a18, a19) pl :=
  Exists.intro fu (rc_fol lz pl nx' sn' hp H fu stk nx sn 0 _ _ _ _ _ _ _ _ _ hr (by omega) hw hd hs hx hsn)
end
end
section
section
variable {vh vm vl vz vn vc vd vw ve : Int32} {a1 a2 a3 a4 a5 a6 a7 a8 a9 a10 a11 a12 a13 a14 a15 a16 a17 a18 a19 : Nat → Int32}
theorem rc_clear {post : St2 → Prop} (H : ∀ b14, rc_sn b14 [] → post (vh, vm, vl, vz, vn, vc, 0, vw, ve, a1, a2, a3, a4, a5, a6, a7, a8, a9, a10, a11, a12, a13, b14, a15, a16, a17, a18, a19)) : wpX_clearSeen post (vh, vm, vl, vz, vn, vc, vd, vw, ve, a1, a2, a3, a4, a5, a6, a7, a8, a9, a10, a11, a12, a13, a14, a15, a16, a17, a18, a19) := by
  refine pk_loop (fun n i s => wX_clearSeen_2 post vh vm vl vz vn vc vd vw ve n (nI i) a1 a2 a3 a4 a5 a6 a7 a8 a9 a10 a11 a12 a13 s a15 a16 a17 a18 a19) (fun i s => ∀ k, k < i → s k = (fun _ => (0 : Int32)) k) 1088 0 a14 (by omega) (fun k hk => absurd hk (by omega)) ?_ ?_
  · intro n s h
    refine pk_le 1088 1088 (fun _ => H s ?_) (fun z => absurd z (by omega))
    intro j hj
    exact ⟨fun _ => rfl, fun _ => h j hj⟩
  · intro n i s hi h hW
    exact pk_le 1088 i (fun z => absurd z (by omega)) (fun _ => ⟨pk_in i 1088 hi, nm_e (nm_r (nI_1 i) (hW _ (rc_fill0 (f := fun _ => (0 : Int32)) (nI_clamp (by omega)) rfl h)))⟩)
theorem rc_adv38 {post : St2 → Prop} {q : Nat} (hq : q < 60) (hc : vc = nI q)
    (H : ∀ s, (∀ k, k < 6 * q → s k = a13 k) → post (vh, vm, vl, vz, vn, vc, vd, vw, ve, a1, a2, a3, a4, a5, a6, a7, a8, a9, a10, s, a12, a13, a14, a15, a16, a17, a18, a19)) : ∃ n, wX_advance_38 post vh vm vl vz vn vc vd vw ve n 0 a1 a2 a3 a4 a5 a6 a7 a8 a9 a10 a11 a12 a13 a14 a15 a16 a17 a18 a19 := by
  have e6 : 6 * vc = nI (6 * q) := by rw [hc]; exact pk_mul 6 q
  refine pk_loop (fun n i s => wX_advance_38 post vh vm vl vz vn vc vd vw ve n (nI i) a1 a2 a3 a4 a5 a6 a7 a8 a9 a10 s a12 a13 a14 a15 a16 a17 a18 a19) (fun i s => ∀ k, k < i → s k = a13 k) (6 * q) 0 a11 (by omega) (fun k hk => absurd hk (by omega)) ?_ ?_
  · intro n s h
    exact pk_le (6 * q) (6 * q) (fun _ => H s h) (fun z => absurd z (by omega)) e6
  · intro n i s hi h hW
    exact pk_le (6 * q) i (fun z => absurd z (by omega)) (fun _ => ⟨pk_in i 384 (by omega), pk_in i 384 (by omega), nm_e (nm_r (nI_1 i) (hW _ (rc_fill0 (nI_clamp (by omega)) (by rw [nI_clamp (by omega)]) h)))⟩) e6
theorem rc_adv {post : St2 → Prop} (l : List (Nat × (Nat → Int32))) (hd : vd = nI l.length) (hl : l.length < 60) (hx : rc_tn a12 a13 l)
    (H : ∀ b10 b11, rc_tn b10 b11 l → post (vh, vm, vl, vz, vn, nI l.length, nI l.length, vw, ve, a1, a2, a3, a4, a5, a6, a7, a8, a9, b10, b11, a12, a13, a14, a15, a16, a17, a18, a19)) : wpX_advance post (vh, vm, vl, vz, vn, vc, vd, vw, ve, a1, a2, a3, a4, a5, a6, a7, a8, a9, a10, a11, a12, a13, a14, a15, a16, a17, a18, a19) := by
  subst hd
  refine pk_loop (fun n i s => wX_advance_10 post vh vm vl vz vn (nI l.length) (nI l.length) vw ve n (nI i) a1 a2 a3 a4 a5 a6 a7 a8 a9 s a11 a12 a13 a14 a15 a16 a17 a18 a19) (fun i s => ∀ k, k < i → s k = a12 k) l.length 0 a10 (by omega) (fun k hk => absurd hk (by omega)) ?_ ?_
  · intro n s h
    refine pk_le l.length l.length (fun _ => rc_adv38 hl rfl ?_) (fun z => absurd z (by omega))
    intro s' h'
    refine H s s' ?_
    intro i t ht
    have hi : i < l.length := (List.getElem?_eq_some_iff.mp ht).1
    obtain ⟨g1, g2⟩ := hx i t ht
    refine ⟨by rw [h i hi]; exact g1, fun k hk => ?_⟩
    rw [h' _ (by omega)]; exact g2 k hk
  · intro n i s hi h hW
    exact pk_le l.length i (fun z => absurd z (by omega)) (fun _ => ⟨pk_in i 64 (by omega), pk_in i 64 (by omega), nm_e (nm_r (nI_1 i) (hW _ (rc_fill0 (nI_clamp (by omega)) (by rw [nI_clamp (by omega)]) h)))⟩)
theorem rc_load {post : St2 → Prop} (t : Nat) (ht : t < 60) (H : ∀ b18, (∀ k, k < 6 → b18 k = a11 (t * 6 + k)) → post (vh, vm, vl, vz, vn, vc, vd, vw, ve, a1, a2, a3, a4, a5, a6, a7, a8, a9, a10, a11, a12, a13, a14, a15, a16, a17, b18, a19)) : wpX_loadNotes post (vh, vm, vl, vz, vn, vc, vd, vw, ve, a1, a2, a3, a4, a5, a6, a7, a8, a9, a10, a11, a12, a13, a14, a15, a16, a17, a18, a19) (nI t) := by
  refine pk_loop (fun n i s => wX_loadNotes_2 post (nI t) vh vm vl vz vn vc vd vw ve n (nI i) a1 a2 a3 a4 a5 a6 a7 a8 a9 a10 a11 a12 a13 a14 a15 a16 a17 s a19) (fun i s => ∀ k, k < i → s k = (fun k => a11 (t * 6 + k)) k) 6 0 a18 (by omega) (fun k hk => absurd hk (by omega)) ?_ ?_
  · intro n s h
    exact pk_le 6 6 (fun _ => H s h) (fun z => absurd z (by omega))
  · intro n i s hi h hW
    have e1 : nI t * 6 + nI i = nI (t * 6 + i) := by rw [show (6 : Int32) = nI 6 from rfl, pk_mul, nI_add]
    exact pk_le 6 i (fun z => absurd z (by omega)) (fun _ => ⟨pk_in (t * 6 + i) 384 (by omega) e1, pk_in i 6 hi, nm_e (nm_r (nI_1 i) (hW _ (rc_fill0 (f := fun k => a11 (t * 6 + k)) (nI_clamp (by omega)) (by rw [pk_cl _ e1]) h)))⟩)
theorem rc_s65 {post : St2 → Prop} {J : Int32 → Int32 → Int32 → Int32 → Int32 → Int32 → Int32 → Int32 → Int32 → Int32 → Int32 → (Nat → Int32) → (Nat → Int32) → (Nat → Int32) → (Nat → Int32) → (Nat → Int32) → (Nat → Int32) → (Nat → Int32) → (Nat → Int32) → (Nat → Int32) → (Nat → Int32) → (Nat → Int32) → (Nat → Int32) → (Nat → Int32) → (Nat → Int32) → (Nat → Int32) → (Nat → Int32) → (Nat → Int32) → (Nat → Int32) → (Nat → Int32) → Prop} {x1 x2 : Int32} (t : Nat) (H : ∀ b19, (∀ k, k < 6 → b19 k = a18 k) → J 0 (nI (t + 1)) vh vm vl vz vn vc vd vw ve a1 a2 a3 a4 a5 a6 a7 a8 a9 a10 a11 a12 a13 a14 a15 a16 a17 a18 b19) :
    ∃ n, wX_step_65 post J x1 x2 (nI t) vh vm vl vz vn vc vd vw ve n 0 a1 a2 a3 a4 a5 a6 a7 a8 a9 a10 a11 a12 a13 a14 a15 a16 a17 a18 a19 := by
  refine pk_loop (fun n i s => wX_step_65 post J x1 x2 (nI t) vh vm vl vz vn vc vd vw ve n (nI i) a1 a2 a3 a4 a5 a6 a7 a8 a9 a10 a11 a12 a13 a14 a15 a16 a17 a18 s) (fun i s => ∀ k, k < i → s k = a18 k) 6 0 a19 (by omega) (fun k hk => absurd hk (by omega)) ?_ ?_
  · intro n s h
    exact pk_le 6 6 (fun _ => nm_r (nI_1 t) (H s h)) (fun z => absurd z (by omega))
  · intro n i s hi h hW
    exact pk_le 6 i (fun z => absurd z (by omega)) (fun _ => ⟨pk_in i 6 hi, pk_in i 6 hi, nm_e (nm_r (nI_1 i) (hW _ (rc_fill0 (nI_clamp (by omega)) (by rw [nI_clamp (by omega)]) h)))⟩)
def rc_ch (n pl : Int32) (a9 : Nat → Int32) : Option Nat → Prop
  | none => n ≤ pl
  | some c => ¬ n ≤ pl ∧ vp_in pl 10 ∧ a9 pl.toNatClampNeg = nI c ∧ c < 3
def rc_fo (pl e e' : Int32) (g g' : Nat → Int32) : Option (Nat → Int32) → Prop
  | none => e' = e ∧ g' = g
  | some nt => e' = pl ∧ ∀ k, k < 6 → g' k = nt k
theorem rc_st_cons (lz ok : Bool) (pl : Int32) (ch : Option Nat) (u : Nat × (Nat → Int32)) (r nx : List (Nat × (Nat → Int32))) (sn : List Nat) : rc_st lz pl ok ch (u :: r) nx sn = cond (Nat.blt u.1 13 && Nat.beq (rc_code lz u.1) 0 && Nat.blt (rc_x u.1) 3)
      (match ch with
        | none => rc_st lz pl ok ch r nx sn
        | some c => cond (Nat.beq (rc_x u.1) c)
          (match rc_run lz (pl + 1) 20 [(u.1 + 1, 0, u.2)] nx sn with
            | none => none
            | some z => rc_st lz pl ok ch r z.1 z.2)
          (rc_st lz pl ok ch r nx sn))
      (cond (Nat.beq u.1 13) (cond ok (some (some u.2, nx)) (rc_st lz pl ok ch r nx sn)) none) := rfl
theorem rc_stp {post : St2 → Prop} (lz : Bool) (pl x2 : Int32) (ok : Bool) (hok : ok = true ↔ (x2 < 0 ∨ x2 = pl)) (ch : Option Nat) (hch : rc_ch vn pl a9 ch) (hp : rc_prog lz a6 a7 a8)
    (th : List (Nat × (Nat → Int32))) (hth : th.length < 60) (ha : rc_tn a10 a11 th) (hc : vc = nI th.length) (fo : Option (Nat → Int32)) (nx' : List (Nat × (Nat → Int32))) (hnx' : nx'.length < 60)
    (H : ∀ e b10 b11 b12 b13 b14 b15 b16 b17 b18 b19, rc_fo pl ve e a19 b19 fo → rc_tn b10 b11 nx' → post (vh, vm, vl, vz, vn, nI nx'.length, nI nx'.length, 0, e, a1, a2, a3, a4, a5, a6, a7, a8, a9, b10, b11, b12, b13, b14, b15, b16, b17, b18, b19)) :
    ∀ (rest : List (Nat × (Nat → Int32))) (t : Nat) (nx : List (Nat × (Nat → Int32))) (sn : List Nat) (d : Int32) (b12 b13 b14 b15 b16 b17 b18 : Nat → Int32), th.drop t = rest → t + rest.length = th.length → rc_st lz pl ok ch rest nx sn = some (fo, nx') → d = nI nx.length → rc_tn b12 b13 nx → rc_sn b14 sn →
      wX_step_9 post pl x2 (rest.length + 2) 1 (nI t) vh vm vl vz vn vc d 0 ve a1 a2 a3 a4 a5 a6 a7 a8 a9 a10 a11 b12 b13 b14 b15 b16 b17 b18 a19 := by
  subst hc
  intro rest
  induction rest with
  | nil =>
    intro t nx sn d b12 b13 b14 b15 b16 b17 b18 hdr hl hr hd hx hsn
    have e : some (none, nx) = some (fo, nx') := hr
    injection e with e
    injection e with e1 e2
    subst e1 e2
    have hl' : t = th.length := by simpa using hl
    refine pk_le th.length t (fun _ => ?_) (fun z => absurd z (by omega))
    unfold wX_step_154
    exact rc_adv nx hd hnx' hx (fun b10 b11 hb => H _ _ _ _ _ _ _ _ _ _ _ ⟨rfl, rfl⟩ hb)
  | cons u r ih =>
    intro t nx sn d b12 b13 b14 b15 b16 b17 b18 hdr hl hr hd hx hsn
    have hl1 : t + (r.length + 1) = th.length := hl
    have hget : th[t]? = some u := by
      have : (th.drop t)[0]? = some u := by rw [hdr]; rfl
      rw [List.getElem?_drop] at this
      exact this
    have hdr' : th.drop (t + 1) = r := by
      rw [← List.drop_drop, hdr]; rfl
    obtain ⟨g1, g2⟩ := ha t u hget
    have hin64 : u.1 < 14 → vp_in (nI u.1) 64 := fun z => pk_in u.1 64 (by omega)
    have hr' := (rc_st_cons lz ok pl ch u r nx sn).symm.trans hr
    clear hr
    have next : ∀ (nx2 : List (Nat × (Nat → Int32))) (sn2 : List Nat) (d2 : Int32) (c12 c13 c14 c15 c16 c17 c18 : Nat → Int32), rc_st lz pl ok ch r nx2 sn2 = some (fo, nx') → d2 = nI nx2.length → rc_tn c12 c13 nx2 → rc_sn c14 sn2 → wX_step_9 post pl x2 (r.length + 2) 1 (nI (t + 1)) vh vm vl vz vn (nI th.length) d2 0 ve a1 a2 a3 a4 a5 a6 a7 a8 a9 a10 a11 c12 c13 c14 c15 c16 c17 c18 a19 :=
      fun nx2 sn2 d2 c12 c13 c14 c15 c16 c17 c18 q1 q2 q3 q4 => ih (t + 1) nx2 sn2 d2 c12 c13 c14 c15 c16 c17 c18 hdr' (by omega) q1 q2 q3 q4
    refine pk_le th.length t (fun z => absurd z (by omega)) (fun _ => br_f (by decide) (And.intro (pk_in t 64 (by omega)) (nm_r (e' := nI u.1) (by rw [nI_clamp (by omega)]; exact g1) (rc_load t (by omega) ?_))))
    intro c18 h18
    have hn18 : ∀ k, k < 6 → c18 k = u.2 k := fun k hk => (h18 k hk).trans (g2 k hk)
    clear h18
    cases hA : (Nat.blt u.1 13 && Nat.beq (rc_code lz u.1) 0 && Nat.blt (rc_x u.1) 3) with
    | true =>
      rw [hA] at hr'
      simp only [Bool.and_eq_true] at hA
      have u13 : u.1 < 13 := Nat.le_of_ble_eq_true hA.1.1
      have u0 : rc_code lz u.1 = 0 := Nat.eq_of_beq_eq_true hA.1.2
      have u3 : rc_x u.1 < 3 := Nat.le_of_ble_eq_true hA.2
      obtain ⟨p6, p7, _, _⟩ := hp u.1 (by omega)
      have p7' := p7 (Or.inl u0)
      rw [u0] at p6
      have hcu : (nI u.1).toNatClampNeg = u.1 := nI_clamp (by omega)
      refine And.intro (hin64 (by omega)) ?_
      rw [hcu, p6, p7']
      refine br_f (by decide) ?_
      cases ch with
      | none =>
        exact br_t hch (nm_r (nI_1 t) (next nx sn _ _ _ _ _ _ _ _ hr' hd hx hsn))
      | some c =>
        obtain ⟨k1, k2, k3, k4⟩ := hch
        refine br_f k1 (And.intro (hin64 (by omega)) (br_f (fun z => absurd ((nI_eq (b := 3) (by omega) (by omega)).mp z) (by omega)) (And.intro (hin64 (by omega)) (And.intro k2 ?_))))
        rw [k3]
        have hr2 := hr'
        dsimp only [cond_true] at hr2
        cases hb : Nat.beq (rc_x u.1) c with
        | true =>
          rw [hb] at hr2
          have hbe := Nat.eq_of_beq_eq_true hb
          refine br_t (by rw [hbe]) ?_
          cases hrun : rc_run lz (pl + 1) 20 [(u.1 + 1, 0, u.2)] nx sn with
          | none => rw [hrun] at hr2; exact absurd hr2 (by simp)
          | some z =>
            rw [hrun] at hr2
            unfold wX_step_132
            refine rc_push [] (u.1 + 1) 0 u.2 (nI_1 u.1) rfl rfl (by decide) trivial hn18 ?_
            intro c15 c16 c17 hsk
            refine rc_follow lz 20 hp (nx' := z.1) (sn' := z.2) hrun (by omega) rfl hd hsk hx hsn ?_
            intro e12 e13 e14 e15 e16 e17 e18 q1 q2
            exact nm_r (nI_1 t) (next z.1 z.2 _ _ _ _ _ _ _ _ hr2 rfl q1 q2)
        | false =>
          rw [hb] at hr2
          refine br_f ?_ (nm_r (nI_1 t) (next nx sn _ _ _ _ _ _ _ _ hr2 hd hx hsn))
          intro z
          have := (nI_eq (by omega) (by omega)).mp z
          rw [this, Nat.beq_refl] at hb
          exact absurd hb (by simp)
    | false =>
      rw [hA] at hr'
      have hr2 : cond (Nat.beq u.1 13) (cond ok (some (some u.2, nx)) (rc_st lz pl ok ch r nx sn)) none = some (fo, nx') := hr'
      cases hb : Nat.beq u.1 13 with
      | false => rw [hb] at hr2; exact absurd hr2 (by simp)
      | true =>
        rw [hb] at hr2
        have u13 : u.1 = 13 := Nat.eq_of_beq_eq_true hb
        have p6 := (hp u.1 (by omega)).1
        have hcd : rc_code lz u.1 = 4 := by rw [u13]; cases lz <;> rfl
        rw [hcd] at p6
        have hcu : (nI u.1).toNatClampNeg = u.1 := nI_clamp (by omega)
        refine And.intro (hin64 (by omega)) ?_
        rw [hcu, p6]
        refine br_t (by decide) ?_
        cases ok with
        | true =>
          have e : some (some u.2, nx) = some (fo, nx') := hr2
          injection e with e
          injection e with e1 e2
          subst e1 e2
          have fin : ∃ n, wX_step_65 post (wX_step_9 post pl x2 (r.length + 2)) pl x2 (nI t) vh vm vl vz vn (nI th.length) d 0 pl n 0 a1 a2 a3 a4 a5 a6 a7 a8 a9 a10 a11 b12 b13 b14 b15 b16 b17 c18 a19 := by
            refine rc_s65 t ?_
            intro c19 h19
            refine br_c (fun _ => ?_) (fun _ => br_t rfl ?_)
            · unfold wX_step_154
              exact rc_adv nx hd hnx' hx (fun b10 b11 hb => H _ _ _ _ _ _ _ _ _ _ _ ⟨rfl, fun k hk => (h19 k hk).trans (hn18 k hk)⟩ hb)
            · unfold wX_step_154
              exact rc_adv nx hd hnx' hx (fun b10 b11 hb => H _ _ _ _ _ _ _ _ _ _ _ ⟨rfl, fun k hk => (h19 k hk).trans (hn18 k hk)⟩ hb)
          exact br_c (fun _ => fin) (fun z => br_t ((hok.mp rfl).resolve_left z) fin)
        | false =>
          have hno : ¬ (x2 < 0 ∨ x2 = pl) := fun z => absurd (hok.mpr z) (by simp)
          exact br_f (fun z => hno (Or.inl z)) (br_f (fun z => hno (Or.inr z)) (nm_r (nI_1 t) (next nx sn _ _ _ _ _ _ _ _ hr2 hd hx hsn)))
theorem rc_step {post : St2 → Prop} (lz : Bool) (pl x2 : Int32) (ok : Bool) (hok : ok = true ↔ (x2 < 0 ∨ x2 = pl)) (ch : Option Nat) (hch : rc_ch vn pl a9 ch) (hp : rc_prog lz a6 a7 a8)
    (th : List (Nat × (Nat → Int32))) (hth : th.length < 60) (ha : rc_tn a10 a11 th) (hc : vc = nI th.length) (hw : vw = 0) (fo : Option (Nat → Int32)) (nx' : List (Nat × (Nat → Int32))) (hnx' : nx'.length < 60) (hst : rc_st lz pl ok ch th [] [] = some (fo, nx'))
    (H : ∀ e b10 b11 b12 b13 b14 b15 b16 b17 b18 b19, rc_fo pl ve e a19 b19 fo → rc_tn b10 b11 nx' → post (vh, vm, vl, vz, vn, nI nx'.length, nI nx'.length, 0, e, a1, a2, a3, a4, a5, a6, a7, a8, a9, b10, b11, b12, b13, b14, b15, b16, b17, b18, b19)) :
    wpX_step post (vh, vm, vl, vz, vn, vc, vd, vw, ve, a1, a2, a3, a4, a5, a6, a7, a8, a9, a10, a11, a12, a13, a14, a15, a16, a17, a18, a19) pl x2 := by
  subst hw
  unfold wpX_step
  refine rc_clear ?_
  intro b14 h14
  exact Exists.intro (th.length + 2) (rc_stp lz pl x2 ok hok ch hch hp th hth ha hc fo nx' hnx' H th 0 [] [] _ _ _ _ _ _ _ _ rfl (by omega) hst rfl rc_tn_0 h14)
end
end
section
/-! the law's folds: the first 2 from s on, the last letter g ahead of it -/
def rc_ff (T : Nat → Nat) (s : Nat) : Nat → Option Nat
  | 0 => none
  | p + 1 => match rc_ff T s p with
    | some q => some q
    | none => if s ≤ p ∧ T p = 2 then some p else none
def rc_zz (T : Nat → Nat) (s g : Nat) : Nat → Int32
  | 0 => -4
  | p + 1 => if rc_ff T s p = none ∧ s ≤ p ∧ T p = g then nI (17 * p + 1) else rc_zz T s g p
theorem rc_ff_s {T : Nat → Nat} {s p : Nat} (h : rc_ff T s p = none) : rc_ff T s (p + 1) = if s ≤ p ∧ T p = 2 then some p else none := by
  show (match rc_ff T s p with | some q => some q | none => if s ≤ p ∧ T p = 2 then some p else none) = _
  rw [h]
theorem rc_ff_k {T : Nat → Nat} {s p q : Nat} (h : rc_ff T s p = some q) : rc_ff T s (p + 1) = some q := by
  show (match rc_ff T s p with | some q => some q | none => if s ≤ p ∧ T p = 2 then some p else none) = _
  rw [h]
theorem rc_zz_s {T : Nat → Nat} {s g p : Nat} : rc_zz T s g (p + 1) = if rc_ff T s p = none ∧ s ≤ p ∧ T p = g then nI (17 * p + 1) else rc_zz T s g p := rfl
theorem rc_ff_lo {T : Nat → Nat} {s : Nat} : ∀ p, p ≤ s → rc_ff T s p = none := by
  intro p
  induction p with
  | zero => intro _; rfl
  | succ p ih =>
    intro h
    rw [rc_ff_s (ih (by omega)), if_neg (by omega)]
theorem rc_zz_lo {T : Nat → Nat} {s g : Nat} : ∀ p, p ≤ s → rc_zz T s g p = -4 := by
  intro p
  induction p with
  | zero => intro _; rfl
  | succ p ih =>
    intro h
    rw [rc_zz_s, if_neg (by omega)]
    exact ih (by omega)
theorem rc_ff_mono {T : Nat → Nat} {s p q : Nat} (h : rc_ff T s p = some q) : ∀ k, rc_ff T s (p + k) = some q ∧ ∀ g, rc_zz T s g (p + k) = rc_zz T s g p := by
  intro k
  induction k with
  | zero => exact ⟨h, fun _ => rfl⟩
  | succ k ih =>
    refine ⟨rc_ff_k ih.1, fun g => ?_⟩
    show rc_zz T s g ((p + k) + 1) = _
    rw [rc_zz_s, if_neg (by rw [ih.1]; simp)]
    exact ih.2 g
theorem rc_ff_in {T : Nat → Nat} {s : Nat} : ∀ p q, rc_ff T s p = some q → s ≤ q ∧ q < p ∧ T q = 2 ∧ rc_ff T s q = none := by
  intro p
  induction p with
  | zero => intro q h; exact absurd h (by simp [rc_ff])
  | succ p ih =>
    intro q h
    cases hp : rc_ff T s p with
    | some q' =>
      rw [rc_ff_k hp] at h
      injection h with h
      subst h
      obtain ⟨h1, h2, h3, h4⟩ := ih _ hp
      exact ⟨h1, by omega, h3, h4⟩
    | none =>
      rw [rc_ff_s hp] at h
      by_cases c : s ≤ p ∧ T p = 2
      · rw [if_pos c] at h
        injection h with h
        subst h
        exact ⟨c.1, by omega, c.2, hp⟩
      · rw [if_neg c] at h
        exact absurd h (by simp)
theorem rc_ff_no {T : Nat → Nat} {s : Nat} : ∀ p, rc_ff T s p = none ↔ ∀ j, s ≤ j → j < p → T j ≠ 2 := by
  intro p
  induction p with
  | zero => exact ⟨fun _ j _ h => absurd h (by omega), fun _ => rfl⟩
  | succ p ih =>
    cases hp : rc_ff T s p with
    | some q =>
      rw [rc_ff_k hp]
      obtain ⟨h1, h2, h3, _⟩ := rc_ff_in p q hp
      exact ⟨fun z => absurd z (by simp), fun z => absurd h3 (z q h1 (by omega))⟩
    | none =>
      rw [rc_ff_s hp]
      have h0 := ih.mp hp
      by_cases c : s ≤ p ∧ T p = 2
      · rw [if_pos c]
        exact ⟨fun z => absurd z (by simp), fun z => absurd c.2 (z p c.1 (by omega))⟩
      · rw [if_neg c]
        refine ⟨fun _ j h1 h2 => ?_, fun _ => rfl⟩
        by_cases e : j = p
        · subst e; exact fun z => c ⟨h1, z⟩
        · exact h0 j h1 (by omega)
theorem rc_ff_up {T : Nat → Nat} {s s' n : Nat} (h : rc_ff T s n = none) (hs : s ≤ s') : rc_ff T s' n = none :=
  (rc_ff_no n).mpr (fun j h1 h2 => (rc_ff_no n).mp h j (by omega) h2)
/-! what a search leaves, what findFrom leaves -/
def rc_got (T : Nat → Nat) (s n q : Nat) (e : Int32) (g : Nat → Int32) : Prop := e = nI (q + 1) ∧ g 0 = rc_zz T s 0 n ∧ g 1 = rc_zz T s 1 n ∧ g 2 = nI (16 * s + q)
def rc_res (T : Nat → Nat) (s n : Nat) (x2 e : Int32) (g : Nat → Int32) : Prop :=
  (rc_ff T s n = none → e = -4) ∧ ∀ q, rc_ff T s n = some q → ((x2 < 0 ∨ x2 = nI (q + 1)) → rc_got T s n q e g) ∧ (¬ (x2 < 0 ∨ x2 = nI (q + 1)) → e = -4)
def rc_fr (T : Nat → Nat) (f n : Nat) (r e : Int32) (g : Nat → Int32) : Prop :=
  (rc_ff T f n = none ∧ r = -4) ∨ ∃ q, rc_ff T f n = some q ∧ r = nI f ∧ rc_got T f n q e g
def rc_txt (T : Nat → Nat) (n : Nat) (a9 : Nat → Int32) : Prop := ∀ j, j < n → a9 j = nI (T j) ∧ T j < 3
def rc_c (T : Nat → Nat) (n p : Nat) : Option Nat := if p < n then some (T p) else none
theorem rc_17 (p : Nat) : (16 : Int32) * nI p + nI (p + 1) = nI (17 * p + 1) := by
  rw [show (16 : Int32) = nI 16 from rfl, pk_mul, nI_add]
  exact congrArg nI (by omega)
theorem rc_thr_len (lz : Bool) (B : Nat → Int32) (pl : Int32) : (rc_thr lz B pl).length = 3 := by
  cases lz <;> rfl
section
variable {vh vm vl vz vn vc vd vw ve : Int32} {a1 a2 a3 a4 a5 a6 a7 a8 a9 a10 a11 a12 a13 a14 a15 a16 a17 a18 a19 : Nat → Int32}
theorem rc_chI {T : Nat → Nat} {n p : Nat} (hn : vn = nI n) (hn9 : n ≤ 9) (hT : rc_txt T n a9) (hpn : p ≤ n) : rc_ch vn (nI p) a9 (rc_c T n p) := by
  subst hn
  unfold rc_c
  by_cases h : p < n
  · rw [if_pos h]
    obtain ⟨h1, h2⟩ := hT p h
    exact ⟨nI_ge h (by omega), pk_in p 10 (by omega), by rw [nI_clamp (by omega)]; exact h1, h2⟩
  · rw [if_neg h]
    exact nI_le (by omega) (by omega)
theorem rc_sC {post : St2 → Prop} {x2 x3 : Int32} (k : Nat) (hc : vc = 0) (H : post (vh, vm, vl, vz, vn, 0, vd, vw, ve, a1, a2, a3, a4, a5, a6, a7, a8, a9, a10, a11, a12, a13, a14, a15, a16, a17, a18, a19)) : wX_search_54 post x2 (k + 1) x3 vh vm vl vz vn vc vd vw ve a1 a2 a3 a4 a5 a6 a7 a8 a9 a10 a11 a12 a13 a14 a15 a16 a17 a18 a19 := by
  subst hc
  exact br_c (fun _ => H) (fun _ => br_t (by decide) H)
theorem rc_sB {post : St2 → Prop} {x2 : Int32} (lz : Bool) (T : Nat → Nat) (n p k : Nat) (nt : Nat → Int32) (hn : vn = nI n) (hn9 : n ≤ 9) (hT : rc_txt T n a9) (hpn : p ≤ n) (hp : rc_prog lz a6 a7 a8)
    (ha : rc_tn a10 a11 [(13, nt)]) (hc : vc = nI 1) (hw : vw = 0)
    (H : ∀ c d e b10 b11 b12 b13 b14 b15 b16 b17 b18 b19, ((x2 < 0 ∨ x2 = nI p) → e = nI p ∧ ∀ k, k < 6 → b19 k = nt k) → (¬ (x2 < 0 ∨ x2 = nI p) → e = ve) → post (vh, vm, vl, vz, vn, c, d, 0, e, a1, a2, a3, a4, a5, a6, a7, a8, a9, b10, b11, b12, b13, b14, b15, b16, b17, b18, b19)) :
    wX_search_54 post x2 (k + 2) (nI p) vh vm vl vz vn vc vd vw ve a1 a2 a3 a4 a5 a6 a7 a8 a9 a10 a11 a12 a13 a14 a15 a16 a17 a18 a19 := by
  refine pk_lt n p (fun z => absurd z (by omega)) (fun _ => br_f (by rw [hc]; decide) ?_) hn
  refine rc_step lz (nI p) x2 (decide (x2 < 0 ∨ x2 = nI p)) decide_eq_true_iff (rc_c T n p) (rc_chI hn hn9 hT hpn) hp [(13, nt)] (show (1 : Nat) < 60 by omega) ha hc hw _ [] (by decide) (rc_st_d lz _ nt _ _) ?_
  intro e b10 b11 b12 b13 b14 b15 b16 b17 b18 b19 hf ht
  refine nm_r (nI_1 p) (rc_sC k rfl (H _ _ e b10 b11 b12 b13 b14 b15 b16 b17 b18 b19 ?_ ?_))
  · intro z
    rw [decide_eq_true z] at hf
    exact hf
  · intro z
    rw [decide_eq_false z] at hf
    exact hf.1
theorem rc_sA {post : St2 → Prop} {x2 : Int32} (lz : Bool) (T : Nat → Nat) (s n : Nat) (hn : vn = nI n) (hn9 : n ≤ 9) (hT : rc_txt T n a9) (hp : rc_prog lz a6 a7 a8)
    (H : ∀ c d e b10 b11 b12 b13 b14 b15 b16 b17 b18 b19, rc_res T s n x2 e b19 → post (vh, vm, vl, vz, vn, c, d, 0, e, a1, a2, a3, a4, a5, a6, a7, a8, a9, b10, b11, b12, b13, b14, b15, b16, b17, b18, b19)) :
    ∀ (k p : Nat) (B : Nat → Int32) (c d : Int32) (b10 b11 b12 b13 b14 b15 b16 b17 b18 b19 : Nat → Int32), p + k = n → s ≤ p → rc_ff T s p = none → B 0 = rc_zz T s 0 p → B 1 = rc_zz T s 1 p → B 5 = nI s → rc_tn b10 b11 (rc_thr lz B (nI p)) → c = nI 3 →
      wX_search_54 post x2 (k + 4) (nI p) vh vm vl vz vn c d 0 ((-4)) a1 a2 a3 a4 a5 a6 a7 a8 a9 b10 b11 b12 b13 b14 b15 b16 b17 b18 b19 := by
  intro k
  induction k with
  | zero =>
    intro p B c d b10 b11 b12 b13 b14 b15 b16 b17 b18 b19 hk hsp hff h0 h1 h5 hb hc
    have hpn : p = n := by omega
    refine pk_lt n p (fun z => absurd z (by omega)) (fun _ => br_f (by rw [hc]; decide) ?_) hn
    have hcn : rc_c T n p = none := if_neg (by omega)
    have hch := rc_chI hn hn9 hT (Nat.le_of_eq hpn)
    rw [hcn] at hch
    refine rc_step lz (nI p) x2 (decide (x2 < 0 ∨ x2 = nI p)) decide_eq_true_iff none hch hp (rc_thr lz B (nI p)) (by rw [rc_thr_len]; decide) hb (by rw [rc_thr_len]; exact hc) rfl none [] (by decide) (rc_st_n lz _ B _) ?_
    intro e c10 c11 c12 c13 c14 c15 c16 c17 c18 c19 hf ht
    refine nm_r (nI_1 p) (rc_sC _ rfl (H _ _ e c10 c11 c12 c13 c14 c15 c16 c17 c18 c19 ⟨fun _ => hf.1, fun q hq => ?_⟩))
    rw [hpn] at hff
    rw [hff] at hq
    exact absurd hq (by simp)
  | succ k ih =>
    intro p B c d b10 b11 b12 b13 b14 b15 b16 b17 b18 b19 hk hsp hff h0 h1 h5 hb hc
    have hlt : p < n := by omega
    refine pk_lt n p (fun z => absurd z (by omega)) (fun _ => br_f (by rw [hc]; decide) ?_) hn
    have hcn : rc_c T n p = some (T p) := if_pos hlt
    have hch := rc_chI hn hn9 hT (Nat.le_of_lt hlt)
    rw [hcn] at hch
    have hT3 : T p < 3 := (hT p hlt).2
    have e1 : nI p + 1 = nI (p + 1) := nI_1 p
    have go : ∀ (post' : St2 → Prop) (fo : Option (Nat → Int32)) (nx' : List (Nat × (Nat → Int32))), nx'.length < 60 → rc_st lz (nI p) (decide (x2 < 0 ∨ x2 = nI p)) (some (T p)) (rc_thr lz B (nI p)) [] [] = some (fo, nx') →
        (∀ e c10 c11 c12 c13 c14 c15 c16 c17 c18 c19, rc_fo (nI p) (-4) e b19 c19 fo → rc_tn c10 c11 nx' → post' (vh, vm, vl, vz, vn, nI nx'.length, nI nx'.length, 0, e, a1, a2, a3, a4, a5, a6, a7, a8, a9, c10, c11, c12, c13, c14, c15, c16, c17, c18, c19)) →
        wpX_step post' (vh, vm, vl, vz, vn, c, d, 0, (-4), a1, a2, a3, a4, a5, a6, a7, a8, a9, b10, b11, b12, b13, b14, b15, b16, b17, b18, b19) (nI p) x2 := by
      intro post' fo nx' hl hst hG
      exact rc_step lz (nI p) x2 (decide (x2 < 0 ∨ x2 = nI p)) decide_eq_true_iff (some (T p)) hch hp (rc_thr lz B (nI p)) (by rw [rc_thr_len]; decide) hb (by rw [rc_thr_len]; exact hc) rfl fo nx' hl hst hG
    have hcase : T p = 0 ∨ T p = 1 ∨ T p = 2 := by omega
    rcases hcase with t0 | t0 | t0
    · refine go _ none (rc_thr lz (upd (upd B 3 (nI p)) 0 (16 * upd B 3 (nI p) 3 + (nI p + 1))) (nI p + 1)) (by rw [rc_thr_len]; decide) (by rw [t0]; exact rc_st_0 lz _ B _) ?_
      intro e c10 c11 c12 c13 c14 c15 c16 c17 c18 c19 hf ht
      have he : e = -4 := hf.1
      subst he
      rw [e1] at ht
      refine nm_r e1 (ih (p + 1) _ _ _ c10 c11 c12 c13 c14 c15 c16 c17 c18 c19 (by omega) (by omega) (by rw [rc_ff_s hff, if_neg (by omega)]) ?_ ?_ ?_ ht (by rw [rc_thr_len]))
      · rw [pk_us, pk_us, rc_zz_s, if_pos ⟨hff, hsp, t0⟩]
        exact rc_17 p
      · rw [pk_un (by decide), pk_un (by decide), rc_zz_s, if_neg (by omega)]; exact h1
      · rw [pk_un (by decide), pk_un (by decide)]; exact h5
    · refine go _ none (rc_thr lz (upd (upd B 4 (nI p)) 1 (16 * upd B 4 (nI p) 4 + (nI p + 1))) (nI p + 1)) (by rw [rc_thr_len]; decide) (by rw [t0]; exact rc_st_1 lz _ B _) ?_
      intro e c10 c11 c12 c13 c14 c15 c16 c17 c18 c19 hf ht
      have he : e = -4 := hf.1
      subst he
      rw [e1] at ht
      refine nm_r e1 (ih (p + 1) _ _ _ c10 c11 c12 c13 c14 c15 c16 c17 c18 c19 (by omega) (by omega) (by rw [rc_ff_s hff, if_neg (by omega)]) ?_ ?_ ?_ ht (by rw [rc_thr_len]))
      · rw [pk_un (by decide), pk_un (by decide), rc_zz_s, if_neg (by omega)]; exact h0
      · rw [pk_us, pk_us, rc_zz_s, if_pos ⟨hff, hsp, t0⟩]
        exact rc_17 p
      · rw [pk_un (by decide), pk_un (by decide)]; exact h5
    · refine go _ none [(13, upd B 2 (16 * B 5 + nI p))] (show (1 : Nat) < 60 by omega) (by rw [t0]; exact rc_st_2 lz _ B _) ?_
      intro e c10 c11 c12 c13 c14 c15 c16 c17 c18 c19 hf ht
      have he : e = -4 := hf.1
      subst he
      have hff1 : rc_ff T s (p + 1) = some p := by rw [rc_ff_s hff, if_pos ⟨hsp, t0⟩]
      have hmono := rc_ff_mono hff1 k
      rw [show p + 1 + k = n by omega] at hmono
      have z0 : rc_zz T s 0 n = B 0 := by rw [hmono.2 0, rc_zz_s, if_neg (by omega)]; exact h0.symm
      have z1 : rc_zz T s 1 n = B 1 := by rw [hmono.2 1, rc_zz_s, if_neg (by omega)]; exact h1.symm
      refine nm_r e1 (rc_sB lz T n (p + 1) (k + 2) _ hn hn9 hT (by omega) hp ht rfl rfl ?_)
      intro c d e d10 d11 d12 d13 d14 d15 d16 d17 d18 d19 g1 g2
      refine H c d e d10 d11 d12 d13 d14 d15 d16 d17 d18 d19 ⟨fun z => absurd (hmono.1.symm.trans z) (by simp), fun q hq => ?_⟩
      have hqp : p = q := by
        have := hmono.1.symm.trans hq
        injection this
      subst hqp
      refine ⟨fun z => ?_, fun z => g2 z⟩
      obtain ⟨k1, k2⟩ := g1 z
      refine ⟨k1, ?_, ?_, ?_⟩
      · rw [k2 0 (by omega), pk_un (by decide), z0]
      · rw [k2 1 (by omega), pk_un (by decide), z1]
      · rw [k2 2 (by omega), pk_us, h5, show (16 : Int32) = nI 16 from rfl, pk_mul, nI_add]
theorem rc_search {post : St2 → Prop} {x2 : Int32} (lz : Bool) (T : Nat → Nat) (s n : Nat) (hn : vn = nI n) (hn9 : n ≤ 9) (hT : rc_txt T n a9) (hp : rc_prog lz a6 a7 a8) (hs : s ≤ n)
    (H : ∀ c d e b10 b11 b12 b13 b14 b15 b16 b17 b18 b19, rc_res T s n x2 e b19 → post (vh, vm, vl, vz, vn, c, d, 0, e, a1, a2, a3, a4, a5, a6, a7, a8, a9, b10, b11, b12, b13, b14, b15, b16, b17, b18, b19)) : wpX_search post (vh, vm, vl, vz, vn, vc, vd, vw, ve, a1, a2, a3, a4, a5, a6, a7, a8, a9, a10, a11, a12, a13, a14, a15, a16, a17, a18, a19) (nI s) x2 := by
  unfold wpX_search
  refine rc_clear ?_
  intro b14 h14
  refine pk_loop (fun n i g => wX_search_12 post (nI s) x2 vh vm vl vz vn vc 0 vw ((-4)) n (nI i) a1 a2 a3 a4 a5 a6 a7 a8 a9 a10 a11 a12 a13 b14 a15 a16 a17 g a19) (fun i g => ∀ k, k < i → g k = (fun _ => (-4 : Int32)) k) 6 0 a18 (by omega) (fun k hk => absurd hk (by omega)) ?_ ?_
  · intro n' g h
    refine pk_le 6 6 (fun _ => ?_) (fun z => absurd z (by omega))
    refine rc_push [] 0 0 (fun _ => (-4 : Int32)) rfl rfl rfl (by decide) trivial h ?_
    intro b15 b16 b17 hsk
    obtain ⟨sn, hrun⟩ := rc_run_s lz (fun _ => (-4 : Int32)) (nI s)
    refine rc_follow lz 20 hp hrun (by omega) rfl rfl hsk rc_tn_0 h14 ?_
    intro c12 c13 c14 c15 c16 c17 c18 q1 _
    refine rc_adv _ rfl (by rw [rc_thr_len]; decide) q1 ?_
    intro b10 b11 hb
    refine Exists.intro (n - s + 4) (rc_sA lz T s n hn hn9 hT hp H (n - s) s _ _ _ _ _ _ _ _ _ _ _ _ _ (by omega) (Nat.le_refl s) (rc_ff_lo s (Nat.le_refl s)) ?_ ?_ ?_ hb (by rw [rc_thr_len]))
    · rw [rc_zz_lo s (Nat.le_refl s)]; rfl
    · rw [rc_zz_lo s (Nat.le_refl s)]; rfl
    · rfl
  · intro n' i g hi h hW
    exact pk_le 6 i (fun z => absurd z (by omega)) (fun _ => ⟨pk_in i 6 hi, nm_e (nm_r (nI_1 i) (hW _ (rc_fill0 (f := fun _ => (-4 : Int32)) (nI_clamp (by omega)) rfl h)))⟩)
theorem rc_ffl {post : Int32 → St2 → Prop} (lz : Bool) (T : Nat → Nat) (f n : Nat) (hn : vn = nI n) (hn9 : n ≤ 9) (hT : rc_txt T n a9) (hp : rc_prog lz a6 a7 a8) (hff : rc_ff T f n = none)
    (H : ∀ c d w e b10 b11 b12 b13 b14 b15 b16 b17 b18 b19, post (-4) (vh, vm, vl, vz, vn, c, d, w, e, a1, a2, a3, a4, a5, a6, a7, a8, a9, b10, b11, b12, b13, b14, b15, b16, b17, b18, b19)) :
    ∀ (k i : Nat) (c d w e : Int32) (b10 b11 b12 b13 b14 b15 b16 b17 b18 b19 : Nat → Int32), i + k = n + 1 → f ≤ i → wX_findFrom_2 post (k + 1) (nI i) vh vm vl vz vn c d w e a1 a2 a3 a4 a5 a6 a7 a8 a9 b10 b11 b12 b13 b14 b15 b16 b17 b18 b19 := by
  intro k
  induction k with
  | zero =>
    intro i c d w e b10 b11 b12 b13 b14 b15 b16 b17 b18 b19 hk hf
    exact pk_lt n i (fun _ => H _ _ _ _ _ _ _ _ _ _ _ _ _ _) (fun z => absurd z (by omega)) hn
  | succ k ih =>
    intro i c d w e b10 b11 b12 b13 b14 b15 b16 b17 b18 b19 hk hf
    refine pk_lt n i (fun z => absurd z (by omega)) (fun _ => ?_) hn
    refine rc_search lz T i n hn hn9 hT hp (by omega) ?_
    intro c' d' e' c10 c11 c12 c13 c14 c15 c16 c17 c18 c19 hr
    have he : e' = -4 := hr.1 (rc_ff_up hff hf)
    subst he
    exact br_t (by decide) (nm_r (nI_1 i) (ih (i + 1) _ _ _ _ _ _ _ _ _ _ _ _ _ _ (by omega) (by omega)))
theorem rc_findFrom {post : Int32 → St2 → Prop} (lz : Bool) (T : Nat → Nat) (f n : Nat) (hn : vn = nI n) (hn9 : n ≤ 9) (hT : rc_txt T n a9) (hp : rc_prog lz a6 a7 a8) (hf : f ≤ n)
    (H : ∀ r c d w e b10 b11 b12 b13 b14 b15 b16 b17 b18 b19, rc_fr T f n r e b19 → post r (vh, vm, vl, vz, vn, c, d, w, e, a1, a2, a3, a4, a5, a6, a7, a8, a9, b10, b11, b12, b13, b14, b15, b16, b17, b18, b19)) : wpX_findFrom post (vh, vm, vl, vz, vn, vc, vd, vw, ve, a1, a2, a3, a4, a5, a6, a7, a8, a9, a10, a11, a12, a13, a14, a15, a16, a17, a18, a19) (nI f) := by
  cases hff : rc_ff T f n with
  | none =>
    exact Exists.intro (n + 1 - f + 1) (rc_ffl lz T f n hn hn9 hT hp hff (fun c d w e b10 b11 b12 b13 b14 b15 b16 b17 b18 b19 => H _ _ _ _ _ _ _ _ _ _ _ _ _ _ _ (Or.inl ⟨hff, rfl⟩)) (n + 1 - f) f _ _ _ _ _ _ _ _ _ _ _ _ _ _ (by omega) (Nat.le_refl f))
  | some q =>
    have hq := rc_ff_in n q hff
    refine Exists.intro 1 (pk_lt n f (fun z => absurd z (by omega)) (fun _ => ?_) hn)
    refine rc_search lz T f n hn hn9 hT hp hf ?_
    intro c' d' e' c10 c11 c12 c13 c14 c15 c16 c17 c18 c19 hr
    have hg := (hr.2 q hff).1 (Or.inl (by decide))
    have he := hg.1
    refine br_f (by rw [he]; exact nI_pos (by omega)) (H _ _ _ _ _ _ _ _ _ _ _ _ _ _ _ (Or.inr ⟨q, hff, rfl, hg⟩))
end
end
section
def rc_ov (v : Nat → Int32) : Option Nat → Int32
  | none => -4
  | some q => v q
/-! the law's folds over all of the text: how many 2s, where the last run began, the longest run -/
def rc_cc (T : Nat → Nat) : Nat → Nat
  | 0 => 0
  | i + 1 => if T i = 2 then rc_cc T i + 1 else rc_cc T i
def rc_be (T : Nat → Nat) : Nat → Nat
  | 0 => 0
  | i + 1 => if T i = 2 then i + 1 else rc_be T i
def rc_lo (T : Nat → Nat) : Nat → Int32
  | 0 => -4
  | i + 1 => if T i = 2 then (if nI (i + 1) - nI (rc_be T i) ≤ rc_lo T i then rc_lo T i else nI (i + 1) - nI (rc_be T i)) else rc_lo T i
theorem rc_cc_s {T : Nat → Nat} {i : Nat} : rc_cc T (i + 1) = if T i = 2 then rc_cc T i + 1 else rc_cc T i := rfl
theorem rc_be_s {T : Nat → Nat} {i : Nat} : rc_be T (i + 1) = if T i = 2 then i + 1 else rc_be T i := rfl
theorem rc_lo_s {T : Nat → Nat} {i : Nat} : rc_lo T (i + 1) = if T i = 2 then (if nI (i + 1) - nI (rc_be T i) ≤ rc_lo T i then rc_lo T i else nI (i + 1) - nI (rc_be T i)) else rc_lo T i := rfl
theorem rc_run_no {T : Nat → Nat} {f : Nat} : ∀ k, (∀ j, f ≤ j → j < f + k → T j ≠ 2) → rc_cc T (f + k) = rc_cc T f ∧ rc_be T (f + k) = rc_be T f ∧ rc_lo T (f + k) = rc_lo T f := by
  intro k
  induction k with
  | zero => intro _; exact ⟨rfl, rfl, rfl⟩
  | succ k ih =>
    intro h
    obtain ⟨h1, h2, h3⟩ := ih (fun j a b => h j a (by omega))
    have hk : T (f + k) ≠ 2 := h (f + k) (by omega) (by omega)
    refine ⟨?_, ?_, ?_⟩
    · show rc_cc T ((f + k) + 1) = _
      rw [rc_cc_s, if_neg hk]; exact h1
    · show rc_be T ((f + k) + 1) = _
      rw [rc_be_s, if_neg hk]; exact h2
    · show rc_lo T ((f + k) + 1) = _
      rw [rc_lo_s, if_neg hk]; exact h3
theorem rc_cc_le (T : Nat → Nat) : ∀ n, rc_cc T n ≤ n := by
  intro n
  induction n with
  | zero => exact Nat.le_refl 0
  | succ n ih =>
    rw [rc_cc_s]
    split <;> omega
theorem rc_no_n {T : Nat → Nat} {f n : Nat} (hf : f ≤ n) (h : rc_ff T f n = none) : rc_cc T n = rc_cc T f ∧ rc_lo T n = rc_lo T f := by
  have := rc_run_no (T := T) (f := f) (n - f) (fun j a b => (rc_ff_no n).mp h j a (by omega))
  rw [show f + (n - f) = n by omega] at this
  exact ⟨this.1, this.2.2⟩
theorem rc_yes_n {T : Nat → Nat} {f n q : Nat} (h : rc_ff T f n = some q) (hb : rc_be T f = f) : rc_cc T (q + 1) = rc_cc T f + 1 ∧ rc_be T (q + 1) = q + 1 ∧ rc_lo T (q + 1) = (if nI (q + 1) - nI f ≤ rc_lo T f then rc_lo T f else nI (q + 1) - nI f) := by
  obtain ⟨h1, h2, h3, h4⟩ := rc_ff_in n q h
  have := rc_run_no (T := T) (f := f) (q - f) (fun j a b => (rc_ff_no q).mp h4 j a (by omega))
  rw [show f + (q - f) = q by omega] at this
  obtain ⟨g1, g2, g3⟩ := this
  rw [rc_cc_s, rc_be_s, rc_lo_s, if_pos h3, if_pos h3, if_pos h3, g1, g2, g3, hb]
  exact ⟨rfl, rfl, rfl⟩
def rc_wh (T : Nat → Nat) (n : Nat) : Prop := ∃ q, rc_ff T 0 n = some q ∧ q + 1 = n
section
variable {vh vm vl vz vn vc vd vw ve : Int32} {a1 a2 a3 a4 a5 a6 a7 a8 a9 a10 a11 a12 a13 a14 a15 a16 a17 a18 a19 : Nat → Int32}
theorem rc_off {post : Int32 → Prop} (n f : Nat) (hn : vn = nI n) (hn9 : n ≤ 9) (hf : f < 100) (H0 : f ≤ n → post 0) (H1 : n < f → post 1) : wpX_off post (vh, vm, vl, vz, vn, vc, vd, vw, ve, a1, a2, a3, a4, a5, a6, a7, a8, a9, a10, a11, a12, a13, a14, a15, a16, a17, a18, a19) (nI f) :=
  br_f (nI_pos (by omega)) (pk_le f n H0 H1 rfl hn)
theorem rc_find {post : Int32 → St2 → Prop} (lz : Bool) (T : Nat → Nat) (f n : Nat) (hn : vn = nI n) (hn9 : n ≤ 9) (hT : rc_txt T n a9) (hp : rc_prog lz a6 a7 a8) (hf : f < 100)
    (H : ∀ c d w e b10 b11 b12 b13 b14 b15 b16 b17 b18 b19, post (rc_ov (fun _ => nI f) (rc_ff T f n)) (vh, vm, vl, vz, vn, c, d, w, e, a1, a2, a3, a4, a5, a6, a7, a8, a9, b10, b11, b12, b13, b14, b15, b16, b17, b18, b19)) : wpX_find post (vh, vm, vl, vz, vn, vc, vd, vw, ve, a1, a2, a3, a4, a5, a6, a7, a8, a9, a10, a11, a12, a13, a14, a15, a16, a17, a18, a19) (nI f) := by
  unfold wpX_find
  refine rc_off n f hn hn9 hf (fun h => br_t rfl (rc_findFrom lz T f n hn hn9 hT hp h ?_)) (fun h => br_f (by decide) ?_)
  · intro r c d w e b10 b11 b12 b13 b14 b15 b16 b17 b18 b19 hr
    have hr' : r = rc_ov (fun _ => nI f) (rc_ff T f n) := by
      rcases hr with ⟨h1, h2⟩ | ⟨q, h1, h2, h3⟩
      · rw [h1]; exact h2
      · rw [h1]; exact h2
    rw [hr']
    exact H _ _ _ _ _ _ _ _ _ _ _ _ _ _
  · have := H vc vd vw ve a10 a11 a12 a13 a14 a15 a16 a17 a18 a19
    rw [rc_ff_lo n (by omega)] at this
    exact this
theorem rc_end {post : Int32 → St2 → Prop} (lz : Bool) (T : Nat → Nat) (f n : Nat) (hn : vn = nI n) (hn9 : n ≤ 9) (hT : rc_txt T n a9) (hp : rc_prog lz a6 a7 a8) (hf : f < 100)
    (H : ∀ c d w e b10 b11 b12 b13 b14 b15 b16 b17 b18 b19, post (rc_ov (fun q => nI (q + 1)) (rc_ff T f n)) (vh, vm, vl, vz, vn, c, d, w, e, a1, a2, a3, a4, a5, a6, a7, a8, a9, b10, b11, b12, b13, b14, b15, b16, b17, b18, b19)) : wpX_end post (vh, vm, vl, vz, vn, vc, vd, vw, ve, a1, a2, a3, a4, a5, a6, a7, a8, a9, a10, a11, a12, a13, a14, a15, a16, a17, a18, a19) (nI f) := by
  unfold wpX_end
  refine rc_off n f hn hn9 hf (fun h => br_t rfl (rc_findFrom lz T f n hn hn9 hT hp h ?_)) (fun h => br_f (by decide) ?_)
  · intro r c d w e b10 b11 b12 b13 b14 b15 b16 b17 b18 b19 hr
    have hh := H c d w e b10 b11 b12 b13 b14 b15 b16 b17 b18 b19
    rcases hr with ⟨h1, h2⟩ | ⟨q, h1, h2, h3⟩
    · rw [h1] at hh
      exact br_f (by rw [h2]; decide) hh
    · rw [h1] at hh
      have h3' := h3.1
      refine br_t (by rw [h2]; exact nI_pos' (by omega)) ?_
      rw [h3']
      rw [h3'] at hh
      exact hh
  · have := H vc vd vw ve a10 a11 a12 a13 a14 a15 a16 a17 a18 a19
    rw [rc_ff_lo n (by omega)] at this
    exact this
theorem rc_groupIn {post : Int32 → St2 → Prop} (lz : Bool) (T : Nat → Nat) (f n g : Nat) (v : Nat → Int32) (hg : g < 3) (hn : vn = nI n) (hn9 : n ≤ 9) (hT : rc_txt T n a9) (hp : rc_prog lz a6 a7 a8) (hf : f < 100)
    (hv : ∀ q e G, rc_got T f n q e G → G g = v q)
    (H : ∀ c d w e b10 b11 b12 b13 b14 b15 b16 b17 b18 b19, post (rc_ov v (rc_ff T f n)) (vh, vm, vl, vz, vn, c, d, w, e, a1, a2, a3, a4, a5, a6, a7, a8, a9, b10, b11, b12, b13, b14, b15, b16, b17, b18, b19)) : wpX_groupIn post (vh, vm, vl, vz, vn, vc, vd, vw, ve, a1, a2, a3, a4, a5, a6, a7, a8, a9, a10, a11, a12, a13, a14, a15, a16, a17, a18, a19) (nI f) (nI g) := by
  unfold wpX_groupIn
  refine rc_off n f hn hn9 hf (fun h => br_t rfl (br_f (nI_pos (by omega)) (br_t (nI_le (b := 2) (by omega) (by omega)) (rc_findFrom lz T f n hn hn9 hT hp h ?_)))) (fun h => br_f (by decide) ?_)
  · intro r c d w e b10 b11 b12 b13 b14 b15 b16 b17 b18 b19 hr
    have hh := H c d w e b10 b11 b12 b13 b14 b15 b16 b17 b18 b19
    rcases hr with ⟨h1, h2⟩ | ⟨q, h1, h2, h3⟩
    · rw [h1] at hh
      exact br_f (by rw [h2]; decide) hh
    · rw [h1] at hh
      refine br_t (by rw [h2]; exact nI_pos' (by omega)) (And.intro (pk_in g 6 (by omega)) ?_)
      rw [nI_clamp (by omega), hv q e b19 h3]
      exact hh
  · have := H vc vd vw ve a10 a11 a12 a13 a14 a15 a16 a17 a18 a19
    rw [rc_ff_lo n (by omega)] at this
    exact this
theorem rc_cnt {post : Int32 → St2 → Prop} (lz : Bool) (T : Nat → Nat) (n : Nat) (hn : vn = nI n) (hn9 : n ≤ 9) (hT : rc_txt T n a9) (hp : rc_prog lz a6 a7 a8)
    (H : ∀ c d w e b10 b11 b12 b13 b14 b15 b16 b17 b18 b19, post (nI (rc_cc T n)) (vh, vm, vl, vz, vn, c, d, w, e, a1, a2, a3, a4, a5, a6, a7, a8, a9, b10, b11, b12, b13, b14, b15, b16, b17, b18, b19)) :
    ∀ (k f rd : Nat) (c d w e : Int32) (b10 b11 b12 b13 b14 b15 b16 b17 b18 b19 : Nat → Int32), f ≤ n → n - f ≤ k → rd ≤ f → rc_be T f = f → wX_count_6 post (k + 1) (nI (rc_cc T f)) (nI f) (nI rd) vh vm vl vz vn c d w e a1 a2 a3 a4 a5 a6 a7 a8 a9 b10 b11 b12 b13 b14 b15 b16 b17 b18 b19 := by
  intro k
  induction k with
  | zero =>
    intro f rd c d w e b10 b11 b12 b13 b14 b15 b16 b17 b18 b19 hf hk hrd hb
    refine pk_lt 10 rd (fun z => absurd z (by omega)) (fun _ => pk_lt n f (fun z => absurd z (by omega)) (fun _ => ?_) hn)
    refine rc_findFrom lz T f n hn hn9 hT hp hf ?_
    intro r c d w e c10 c11 c12 c13 c14 c15 c16 c17 c18 c19 hr
    rcases hr with ⟨h1, h2⟩ | ⟨q, h1, h2, h3⟩
    · refine br_f (by rw [h2]; decide) ?_
      rw [← (rc_no_n hf h1).1]
      exact H _ _ _ _ _ _ _ _ _ _ _ _ _ _
    · have := rc_ff_in n q h1
      exact absurd this.2.1 (by omega)
  | succ k ih =>
    intro f rd c d w e b10 b11 b12 b13 b14 b15 b16 b17 b18 b19 hf hk hrd hb
    refine pk_lt 10 rd (fun z => absurd z (by omega)) (fun _ => pk_lt n f (fun z => absurd z (by omega)) (fun _ => ?_) hn)
    refine rc_findFrom lz T f n hn hn9 hT hp hf ?_
    intro r c d w e c10 c11 c12 c13 c14 c15 c16 c17 c18 c19 hr
    rcases hr with ⟨h1, h2⟩ | ⟨q, h1, h2, h3⟩
    · refine br_f (by rw [h2]; decide) ?_
      rw [← (rc_no_n hf h1).1]
      exact H _ _ _ _ _ _ _ _ _ _ _ _ _ _
    · have hq := rc_ff_in n q h1
      have hy := rc_yes_n h1 hb
      have he := h3.1
      subst h2 he
      refine br_t (nI_pos' (by omega)) (nm_r (e' := nI (rc_cc T (q + 1))) (by rw [hy.1]; exact nI_1 _) (br_f (nI_ge (by omega) (by omega)) (nm_r (nI_1 rd) ?_)))
      exact ih (q + 1) (rd + 1) _ _ _ _ _ _ _ _ _ _ _ _ _ _ (by omega) (by omega) (by omega) hy.2.1
theorem rc_count {post : Int32 → St2 → Prop} (lz : Bool) (T : Nat → Nat) (n : Nat) (hn : vn = nI n) (hn9 : n ≤ 9) (hT : rc_txt T n a9) (hp : rc_prog lz a6 a7 a8)
    (H : ∀ c d w e b10 b11 b12 b13 b14 b15 b16 b17 b18 b19, post (nI (rc_cc T n)) (vh, vm, vl, vz, vn, c, d, w, e, a1, a2, a3, a4, a5, a6, a7, a8, a9, b10, b11, b12, b13, b14, b15, b16, b17, b18, b19)) : wpX_count post (vh, vm, vl, vz, vn, vc, vd, vw, ve, a1, a2, a3, a4, a5, a6, a7, a8, a9, a10, a11, a12, a13, a14, a15, a16, a17, a18, a19) :=
  Exists.intro (n + 1) (rc_cnt lz T n hn hn9 hT hp H n 0 0 _ _ _ _ _ _ _ _ _ _ _ _ _ _ (by omega) (by omega) (by omega) rfl)
theorem rc_lng {post : Int32 → St2 → Prop} (lz : Bool) (T : Nat → Nat) (n : Nat) (hn : vn = nI n) (hn9 : n ≤ 9) (hT : rc_txt T n a9) (hp : rc_prog lz a6 a7 a8)
    (H : ∀ c d w e b10 b11 b12 b13 b14 b15 b16 b17 b18 b19, post (rc_lo T n) (vh, vm, vl, vz, vn, c, d, w, e, a1, a2, a3, a4, a5, a6, a7, a8, a9, b10, b11, b12, b13, b14, b15, b16, b17, b18, b19)) :
    ∀ (k f rd : Nat) (c d w e : Int32) (b10 b11 b12 b13 b14 b15 b16 b17 b18 b19 : Nat → Int32), f ≤ n → n - f ≤ k → rd ≤ f → rc_be T f = f → wX_longest_7 post (k + 1) (rc_lo T f) (nI f) (nI rd) vh vm vl vz vn c d w e a1 a2 a3 a4 a5 a6 a7 a8 a9 b10 b11 b12 b13 b14 b15 b16 b17 b18 b19 := by
  intro k
  induction k with
  | zero =>
    intro f rd c d w e b10 b11 b12 b13 b14 b15 b16 b17 b18 b19 hf hk hrd hb
    refine pk_lt 10 rd (fun z => absurd z (by omega)) (fun _ => pk_lt n f (fun z => absurd z (by omega)) (fun _ => ?_) hn)
    refine rc_findFrom lz T f n hn hn9 hT hp hf ?_
    intro r c d w e c10 c11 c12 c13 c14 c15 c16 c17 c18 c19 hr
    rcases hr with ⟨h1, h2⟩ | ⟨q, h1, h2, h3⟩
    · refine br_f (by rw [h2]; decide) ?_
      rw [← (rc_no_n hf h1).2]
      exact H _ _ _ _ _ _ _ _ _ _ _ _ _ _
    · have := rc_ff_in n q h1
      exact absurd this.2.1 (by omega)
  | succ k ih =>
    intro f rd c d w e b10 b11 b12 b13 b14 b15 b16 b17 b18 b19 hf hk hrd hb
    refine pk_lt 10 rd (fun z => absurd z (by omega)) (fun _ => pk_lt n f (fun z => absurd z (by omega)) (fun _ => ?_) hn)
    refine rc_findFrom lz T f n hn hn9 hT hp hf ?_
    intro r c d w e c10 c11 c12 c13 c14 c15 c16 c17 c18 c19 hr
    rcases hr with ⟨h1, h2⟩ | ⟨q, h1, h2, h3⟩
    · refine br_f (by rw [h2]; decide) ?_
      rw [← (rc_no_n hf h1).2]
      exact H _ _ _ _ _ _ _ _ _ _ _ _ _ _
    · have hq := rc_ff_in n q h1
      have hy := rc_yes_n h1 hb
      have he := h3.1
      subst h2 he
      have key : ∀ z0, z0 = rc_lo T (q + 1) → wX_longest_57 post (wX_longest_7 post (k + 1)) (nI rd) (nI f) z0 vh vm vl vz vn c d w (nI (q + 1)) a1 a2 a3 a4 a5 a6 a7 a8 a9 c10 c11 c12 c13 c14 c15 c16 c17 c18 c19 := by
        intro z0 hz
        subst hz
        refine br_f (nI_ge (by omega) (by omega)) (nm_r (nI_1 rd) ?_)
        exact ih (q + 1) (rd + 1) _ _ _ _ _ _ _ _ _ _ _ _ _ _ (by omega) (by omega) (by omega) hy.2.1
      refine br_t (nI_pos' (by omega)) (br_c (fun z => key _ ?_) (fun z => key _ ?_))
      · rw [hy.2.2, if_pos z]
      · rw [hy.2.2, if_neg z]
theorem rc_longest {post : Int32 → St2 → Prop} (lz : Bool) (T : Nat → Nat) (n : Nat) (hn : vn = nI n) (hn9 : n ≤ 9) (hT : rc_txt T n a9) (hp : rc_prog lz a6 a7 a8)
    (H : ∀ c d w e b10 b11 b12 b13 b14 b15 b16 b17 b18 b19, post (rc_lo T n) (vh, vm, vl, vz, vn, c, d, w, e, a1, a2, a3, a4, a5, a6, a7, a8, a9, b10, b11, b12, b13, b14, b15, b16, b17, b18, b19)) : wpX_longest post (vh, vm, vl, vz, vn, vc, vd, vw, ve, a1, a2, a3, a4, a5, a6, a7, a8, a9, a10, a11, a12, a13, a14, a15, a16, a17, a18, a19) :=
  Exists.intro (n + 1) (rc_lng lz T n hn hn9 hT hp H n 0 0 _ _ _ _ _ _ _ _ _ _ _ _ _ _ (by omega) (by omega) (by omega) rfl)
theorem rc_whole {T : Nat → Nat} {n : Nat} {e : Int32} {g : Nat → Int32} (hn9 : n ≤ 9) (h : rc_res T 0 n (nI n) e g) : (rc_wh T n → e = nI n ∧ g 2 = nI (n - 1)) ∧ (¬ rc_wh T n → e = -4) := by
  constructor
  · intro ⟨q, h1, h2⟩
    have := (h.2 q h1).1 (Or.inr (by rw [h2]))
    refine ⟨by rw [this.1, h2], ?_⟩
    rw [this.2.2.2]
    exact congrArg nI (by omega)
  · intro hw
    cases hff : rc_ff T 0 n with
    | none => exact h.1 hff
    | some q =>
      refine (h.2 q hff).2 ?_
      intro z
      have hq := rc_ff_in n q hff
      rcases z with z | z
      · exact nI_pos (by omega) z
      · exact hw ⟨q, hff, ((nI_eq (by omega) (by omega)).mp z).symm⟩
theorem rc_spans {post : Int32 → St2 → Prop} (lz : Bool) (T : Nat → Nat) (n : Nat) (hn : vn = nI n) (hn9 : n ≤ 9) (hT : rc_txt T n a9) (hp : rc_prog lz a6 a7 a8)
    (H1 : rc_wh T n → ∀ c d w e b10 b11 b12 b13 b14 b15 b16 b17 b18 b19, post 1 (vh, vm, vl, vz, vn, c, d, w, e, a1, a2, a3, a4, a5, a6, a7, a8, a9, b10, b11, b12, b13, b14, b15, b16, b17, b18, b19)) (H0 : ¬ rc_wh T n → ∀ c d w e b10 b11 b12 b13 b14 b15 b16 b17 b18 b19, post 0 (vh, vm, vl, vz, vn, c, d, w, e, a1, a2, a3, a4, a5, a6, a7, a8, a9, b10, b11, b12, b13, b14, b15, b16, b17, b18, b19)) : wpX_spans post (vh, vm, vl, vz, vn, vc, vd, vw, ve, a1, a2, a3, a4, a5, a6, a7, a8, a9, a10, a11, a12, a13, a14, a15, a16, a17, a18, a19) 0 (nI n) := by
  unfold wpX_spans
  refine rc_off n 0 hn hn9 (by omega) (fun _ => br_t rfl (rc_off n n hn hn9 (by omega) (fun _ => br_t rfl ?_) (fun z => absurd z (by omega)))) (fun z => absurd z (by omega))
  refine rc_search lz T 0 n hn hn9 hT hp (by omega) ?_
  intro c d e b10 b11 b12 b13 b14 b15 b16 b17 b18 b19 hr
  have hw := rc_whole hn9 hr
  by_cases hh : rc_wh T n
  · exact br_t (hw.1 hh).1 (H1 hh _ _ _ _ _ _ _ _ _ _ _ _ _ _)
  · refine br_f ?_ (H0 hh _ _ _ _ _ _ _ _ _ _ _ _ _ _)
    rw [hw.2 hh]
    intro z
    exact nI_pos (n := n) (by omega) (by rw [← z]; decide)
theorem rc_gWhole {post : Int32 → St2 → Prop} (lz : Bool) (T : Nat → Nat) (n : Nat) (hn : vn = nI n) (hn9 : n ≤ 9) (hT : rc_txt T n a9) (hp : rc_prog lz a6 a7 a8)
    (H1 : rc_wh T n → ∀ c d w e b10 b11 b12 b13 b14 b15 b16 b17 b18 b19, post (nI (n - 1)) (vh, vm, vl, vz, vn, c, d, w, e, a1, a2, a3, a4, a5, a6, a7, a8, a9, b10, b11, b12, b13, b14, b15, b16, b17, b18, b19)) (H0 : ¬ rc_wh T n → ∀ c d w e b10 b11 b12 b13 b14 b15 b16 b17 b18 b19, post (-4) (vh, vm, vl, vz, vn, c, d, w, e, a1, a2, a3, a4, a5, a6, a7, a8, a9, b10, b11, b12, b13, b14, b15, b16, b17, b18, b19)) : wpX_groupInWhole post (vh, vm, vl, vz, vn, vc, vd, vw, ve, a1, a2, a3, a4, a5, a6, a7, a8, a9, a10, a11, a12, a13, a14, a15, a16, a17, a18, a19) 2 := by
  subst hn
  refine br_f (by decide) (br_t (by decide) ?_)
  refine rc_search lz T 0 n rfl hn9 hT hp (by omega) ?_
  intro c d e b10 b11 b12 b13 b14 b15 b16 b17 b18 b19 hr
  have hw := rc_whole hn9 hr
  by_cases hh : rc_wh T n
  · obtain ⟨e1, e2⟩ := hw.1 hh
    refine br_t (by rw [e1]; exact nI_pos' (by omega)) (And.intro (pk_in 2 6 (by omega)) ?_)
    rw [show (2 : Int32).toNatClampNeg = 2 from rfl, e2]
    exact H1 hh _ _ _ _ _ _ _ _ _ _ _ _ _ _
  · exact br_f (by rw [hw.2 hh]; decide) (H0 hh _ _ _ _ _ _ _ _ _ _ _ _ _ _)
end
end
section
/-! patterns as lists of instructions -/
def rc_cd (p q r : Nat → Int32) (l : List (Int32 × Int32 × Int32)) : Prop := ∀ i t, l[i]? = some t → p i = t.1 ∧ q i = t.2.1 ∧ r i = t.2.2
def rc_gp (p q r : Nat → Int32) (l1 l2 : List (Int32 × Int32 × Int32)) : Prop := rc_cd p q r l1 ∧ ∀ i t, l2[i]? = some t → p (l1.length + 1 + i) = t.1 ∧ q (l1.length + 1 + i) = t.2.1 ∧ r (l1.length + 1 + i) = t.2.2
def rc_mv (s a : Nat → Int32) (k len : Nat) : Prop := (∀ i, i < k → s i = a i) ∧ ∀ i, k ≤ i → i < len → s (i + 1) = a i
theorem rc_cd_0 {p q r : Nat → Int32} : rc_cd p q r [] := by
  intro i t h
  simp at h
theorem rc_lt {α : Type} {l : List α} {i : Nat} {t : α} (h : l[i]? = some t) : i < l.length := (List.getElem?_eq_some_iff.mp h).1
theorem rc_cd_add {p q r : Nat → Int32} {l : List (Int32 × Int32 × Int32)} {a b c : Int32} (h : rc_cd p q r l) : rc_cd (upd p l.length a) (upd q l.length b) (upd r l.length c) (l ++ [(a, b, c)]) := by
  intro i t ht
  by_cases e : i < l.length
  · rw [List.getElem?_append_left e] at ht
    rw [pk_un (by omega), pk_un (by omega), pk_un (by omega)]
    exact h i t ht
  · have hi := rc_lt ht
    rw [List.length_append] at hi
    have hi' : i < l.length + 1 := hi
    have e2 : i = l.length := by omega
    subst e2
    rw [List.getElem?_append_right (Nat.le_refl _), Nat.sub_self] at ht
    have ht' : (a, b, c) = t := by simpa using ht
    subst ht'
    exact ⟨pk_us, pk_us, pk_us⟩
theorem rc_cd_put {p q r : Nat → Int32} {l1 l2 : List (Int32 × Int32 × Int32)} {a b c : Int32} (h : rc_gp p q r l1 l2) : rc_cd (upd p l1.length a) (upd q l1.length b) (upd r l1.length c) (l1 ++ (a, b, c) :: l2) := by
  intro i t ht
  by_cases e : i < l1.length
  · rw [List.getElem?_append_left e] at ht
    rw [pk_un (by omega), pk_un (by omega), pk_un (by omega)]
    exact h.1 i t ht
  · rw [List.getElem?_append_right (by omega)] at ht
    by_cases e2 : i = l1.length
    · subst e2
      rw [Nat.sub_self] at ht
      have ht' : (a, b, c) = t := by simpa using ht
      subst ht'
      exact ⟨pk_us, pk_us, pk_us⟩
    · obtain ⟨m, hm⟩ : ∃ m, i = l1.length + 1 + m := ⟨i - (l1.length + 1), by omega⟩
      subst hm
      rw [show l1.length + 1 + m - l1.length = m + 1 by omega, List.getElem?_cons_succ] at ht
      rw [pk_un (by omega), pk_un (by omega), pk_un (by omega)]
      exact h.2 m t ht
theorem rc_gp_of {p q r p' q' r' : Nat → Int32} {l1 l2 : List (Int32 × Int32 × Int32)} {len : Nat} (hl : (l1 ++ l2).length = len) (h : rc_cd p q r (l1 ++ l2)) (h1 : rc_mv p' p l1.length len) (h2 : rc_mv q' q l1.length len) (h3 : rc_mv r' r l1.length len) : rc_gp p' q' r' l1 l2 := by
  rw [List.length_append] at hl
  constructor
  · intro i t ht
    have hi := rc_lt ht
    rw [h1.1 i hi, h2.1 i hi, h3.1 i hi]
    exact h i t (by rw [List.getElem?_append_left hi]; exact ht)
  · intro i t ht
    have hi := rc_lt ht
    rw [show l1.length + 1 + i = (l1.length + i) + 1 by omega, h1.2 _ (by omega) (by omega), h2.2 _ (by omega) (by omega), h3.2 _ (by omega) (by omega)]
    exact h (l1.length + i) t (by rw [List.getElem?_append_right (by omega), show l1.length + i - l1.length = i by omega]; exact ht)
theorem rc_mv_s {s a : Nat → Int32} {j len X : Nat} {v : Int32} (hX : X = j + 1) (hv : v = s j) (h : rc_mv s a (j + 1) len) : rc_mv (upd s X v) a j len := by
  subst hX hv
  constructor
  · intro i hi
    rw [pk_un (by omega)]
    exact h.1 i (by omega)
  · intro i h1 h2
    by_cases e : i = j
    · subst e
      rw [pk_us]
      exact h.1 i (by omega)
    · rw [pk_un (by omega)]
      exact h.2 i (by omega) h2
section
variable {vh vm vl vz vn vc vd vw ve : Int32} {a1 a2 a3 a4 a5 a6 a7 a8 a9 a10 a11 a12 a13 a14 a15 a16 a17 a18 a19 : Nat → Int32}
theorem rc_emit {post : St2 → Prop} {p0 p1 p2 : Int32} (l : List (Int32 × Int32 × Int32)) (hl : vl = nI l.length) (hlen : l.length < 64) (h : rc_cd a3 a4 a5 l)
    (H : ∀ b3 b4 b5, rc_cd b3 b4 b5 (l ++ [(p0, p1, p2)]) → post (vh, vm, nI (l.length + 1), vz, vn, vc, vd, vw, ve, a1, a2, b3, b4, b5, a6, a7, a8, a9, a10, a11, a12, a13, a14, a15, a16, a17, a18, a19)) : wpX_emit post (vh, vm, vl, vz, vn, vc, vd, vw, ve, a1, a2, a3, a4, a5, a6, a7, a8, a9, a10, a11, a12, a13, a14, a15, a16, a17, a18, a19) p0 p1 p2 := by
  subst hl
  have hin : vp_in (nI l.length) 64 := pk_in l.length 64 hlen
  have hc : (nI l.length).toNatClampNeg = l.length := nI_clamp (by omega)
  exact And.intro hin (nm_r (by rw [hc]) (And.intro hin (nm_r (by rw [hc]) (And.intro hin (nm_r (by rw [hc]) (nm_r (nI_1 _) (H _ _ _ (rc_cd_add h))))))))
theorem rc_put {post : St2 → Prop} {p0 p1 p2 p3 : Int32} (l1 l2 : List (Int32 × Int32 × Int32)) (hx : p0 = nI l1.length) (hlen : l1.length < 64) (h : rc_gp a3 a4 a5 l1 l2)
    (H : ∀ b3 b4 b5, rc_cd b3 b4 b5 (l1 ++ (p1, p2, p3) :: l2) → post (vh, vm, vl, vz, vn, vc, vd, vw, ve, a1, a2, b3, b4, b5, a6, a7, a8, a9, a10, a11, a12, a13, a14, a15, a16, a17, a18, a19)) : wpX_put post (vh, vm, vl, vz, vn, vc, vd, vw, ve, a1, a2, a3, a4, a5, a6, a7, a8, a9, a10, a11, a12, a13, a14, a15, a16, a17, a18, a19) p0 p1 p2 p3 := by
  subst hx
  have hin : vp_in (nI l1.length) 64 := pk_in l1.length 64 hlen
  have hc : (nI l1.length).toNatClampNeg = l1.length := nI_clamp (by omega)
  exact And.intro hin (nm_r (by rw [hc]) (And.intro hin (nm_r (by rw [hc]) (And.intro hin (nm_r (by rw [hc]) (H _ _ _ (rc_cd_put h)))))))
theorem rc_opn7 {post : St2 → Prop} (x len : Nat) (hlen : len < 63) (hl : vl = nI len)
    (H : ∀ b3 b4 b5, rc_mv b3 a3 x len → rc_mv b4 a4 x len → rc_mv b5 a5 x len → post (vh, vm, nI (len + 1), vz, vn, vc, vd, vw, ve, a1, a2, b3, b4, b5, a6, a7, a8, a9, a10, a11, a12, a13, a14, a15, a16, a17, a18, a19)) :
    ∀ (d k : Nat) (b3 b4 b5 : Nat → Int32), k = x + d → k ≤ len → rc_mv b3 a3 k len → rc_mv b4 a4 k len → rc_mv b5 a5 k len → wX_open_7 post (nI x) 1 vh vm vl vz vn vc vd vw ve (d + 1) (nI k - 1) a1 a2 b3 b4 b5 a6 a7 a8 a9 a10 a11 a12 a13 a14 a15 a16 a17 a18 a19 := by
  intro d
  induction d with
  | zero =>
    intro k b3 b4 b5 hk hkl h3 h4 h5
    have hk' : k = x := hk
    subst hk'
    refine br_t ?_ (nm_r (e' := nI (len + 1)) (by rw [hl]; exact nI_1 len) (H _ _ _ h3 h4 h5))
    cases k with
    | zero => decide
    | succ m => rw [nI_pred]; exact nI_lt (by omega) (by omega)
  | succ d ih =>
    intro k b3 b4 b5 hk hkl h3 h4 h5
    have hk' : k = (x + d) + 1 := by omega
    subst hk'
    rw [nI_pred]
    have e1 : nI (x + d) + 1 = nI (x + d + 1) := nI_1 _
    have c0 : (nI (x + d)).toNatClampNeg = x + d := nI_clamp (by omega)
    have c1 : (nI (x + d) + 1).toNatClampNeg = x + d + 1 := pk_cl _ e1
    have i0 : vp_in (nI (x + d)) 64 := pk_in (x + d) 64 (by omega)
    have i1 : vp_in (nI (x + d) + 1) 64 := pk_in (x + d + 1) 64 (by omega) e1
    have em : nI (x + d) + (-1) = nI (x + d) - 1 := by grind
    refine br_f (nI_nlt (by omega) (by omega)) (And.intro i0 (And.intro i1 (nm_e (And.intro i0 (And.intro i1 (nm_e (And.intro i0 (And.intro i1 (nm_e (nm_r em ?_))))))))))
    exact ih (x + d) _ _ _ rfl (by omega) (rc_mv_s c1 (by rw [c0]) h3) (rc_mv_s c1 (by rw [c0]) h4) (rc_mv_s c1 (by rw [c0]) h5)
theorem rc_opn {post : St2 → Prop} {p0 : Int32} (l1 l2 : List (Int32 × Int32 × Int32)) (hx : p0 = nI l1.length) (hl : vl = nI (l1 ++ l2).length) (hlen : (l1 ++ l2).length < 63) (h : rc_cd a3 a4 a5 (l1 ++ l2))
    (H : ∀ b3 b4 b5, rc_gp b3 b4 b5 l1 l2 → post (vh, vm, nI ((l1 ++ l2).length + 1), vz, vn, vc, vd, vw, ve, a1, a2, b3, b4, b5, a6, a7, a8, a9, a10, a11, a12, a13, a14, a15, a16, a17, a18, a19)) : wpX_open post (vh, vm, vl, vz, vn, vc, vd, vw, ve, a1, a2, a3, a4, a5, a6, a7, a8, a9, a10, a11, a12, a13, a14, a15, a16, a17, a18, a19) p0 1 := by
  subst hx
  have hL : (l1 ++ l2).length = l1.length + l2.length := List.length_append
  refine nm_r (e' := nI (l1 ++ l2).length - 1) (by rw [hl]) ?_
  refine Exists.intro (l2.length + 1) (rc_opn7 (a3 := a3) (a4 := a4) (a5 := a5) l1.length (l1 ++ l2).length hlen hl ?_ l2.length (l1 ++ l2).length _ _ _ hL (Nat.le_refl _) ?_ ?_ ?_)
  · intro b3 b4 b5 h3 h4 h5
    exact H _ _ _ (rc_gp_of rfl h h3 h4 h5)
  · exact ⟨fun _ _ => rfl, fun i h1 h2 => absurd h2 (by omega)⟩
  · exact ⟨fun _ _ => rfl, fun i h1 h2 => absurd h2 (by omega)⟩
  · exact ⟨fun _ _ => rfl, fun i h1 h2 => absurd h2 (by omega)⟩
theorem rc_letter {post : Int32 → St2 → Prop} {p0 : Int32} (l : List (Int32 × Int32 × Int32)) (hh mm c : Nat) (hc : p0 = nI c) (hc2 : c ≤ 2) (hH : vh = nI hh) (hh6 : hh < 6) (hM : vm = nI mm) (hm16 : mm < 16) (hl : vl = nI l.length) (hlen : l.length < 64) (h : rc_cd a3 a4 a5 l)
    (H : ∀ b3 b4 b5, rc_cd b3 b4 b5 (l ++ [(0, nI c, 0)]) → post (nI (hh + 1)) (nI (hh + 1), nI (mm + 1), nI (l.length + 1), vz, vn, vc, vd, vw, ve, upd a1 hh (nI l.length), upd a2 hh 0, b3, b4, b5, a6, a7, a8, a9, a10, a11, a12, a13, a14, a15, a16, a17, a18, a19)) : wpX_letter post (vh, vm, vl, vz, vn, vc, vd, vw, ve, a1, a2, a3, a4, a5, a6, a7, a8, a9, a10, a11, a12, a13, a14, a15, a16, a17, a18, a19) p0 := by
  subst hc hH hM hl
  refine br_f (nI_pos (by omega)) (br_t (nI_le (b := 2) hc2 (by omega)) ?_)
  have hin : vp_in (nI hh) 6 := pk_in hh 6 hh6
  have hcl : (nI hh).toNatClampNeg = hh := nI_clamp (by omega)
  unfold wpX_leaf
  refine br_f (fun z => absurd ((nI_eq (b := 16) (by omega) (by omega)).mp z) (by omega)) (br_f (fun z => absurd ((nI_eq (b := 6) (by omega) (by omega)).mp z) (by omega)) ?_)
  refine And.intro hin (nm_r (by rw [hcl]) (And.intro hin (nm_r (by rw [hcl]) (nm_r (nI_1 hh) (nm_r (nI_1 mm) (br_t rfl ?_))))))
  unfold wX_leaf_73
  refine br_f (by decide) ?_
  unfold wX_leaf_85
  exact rc_emit l rfl hlen h H
theorem rc_refused {post : Int32 → Prop} {p0 : Int32} (hh mm k : Nat) (hk : p0 = nI k) (hH : vh = nI hh) (hh6 : hh < 100) (hM : vm = nI mm) (hm16 : mm < 16) (hkh : k ≤ hh) (H : post 0) : wpX_refused post (vh, vm, vl, vz, vn, vc, vd, vw, ve, a1, a2, a3, a4, a5, a6, a7, a8, a9, a10, a11, a12, a13, a14, a15, a16, a17, a18, a19) p0 := by
  subst hk hH hM
  exact br_f (fun z => absurd ((nI_eq (b := 16) (by omega) (by omega)).mp z) (by omega)) (br_t (nI_le hkh (by omega)) H)
theorem rc_group {post : Int32 → St2 → Prop} {p0 : Int32} (l1 l2 : List (Int32 × Int32 × Int32)) (hh mm g : Nat) (hg : p0 = nI g) (hg2 : g ≤ 2) (hH : vh = nI (hh + 1)) (hh6 : hh < 6) (hM : vm = nI mm) (hm16 : mm < 16) (hl : vl = nI (l1 ++ l2).length) (hlen : (l1 ++ l2).length < 60) (h : rc_cd a3 a4 a5 (l1 ++ l2)) (hx : a1 hh = nI l1.length)
    (hG : ¬ (((a2 hh) >>> (nI g &&& 31)) &&& 1) = 1)
    (H : ∀ b3 b4 b5, rc_cd b3 b4 b5 ((l1 ++ (3, 3 + nI g, 0) :: l2) ++ [(3, nI g, 0)]) → post (nI (hh + 1)) (vh, nI (mm + 1), nI ((l1 ++ l2).length + 2), vz, vn, vc, vd, vw, ve, a1, upd a2 hh ((a2 hh) ||| ((1 : Int32) <<< (nI g &&& 31))), b3, b4, b5, a6, a7, a8, a9, a10, a11, a12, a13, a14, a15, a16, a17, a18, a19)) : wpX_group post (vh, vm, vl, vz, vn, vc, vd, vw, ve, a1, a2, a3, a4, a5, a6, a7, a8, a9, a10, a11, a12, a13, a14, a15, a16, a17, a18, a19) p0 := by
  subst hg hH hM
  have hL : (l1 ++ l2).length = l1.length + l2.length := List.length_append
  have e1 : nI (hh + 1) - 1 = nI hh := nI_pred hh
  have hin : vp_in (nI (hh + 1) - 1) 6 := pk_in hh 6 hh6 e1
  have hcl : (nI (hh + 1) - 1).toNatClampNeg = hh := pk_cl hh e1
  refine br_f (nI_pos (by omega)) (br_t (nI_le (b := 2) hg2 (by omega)) ?_)
  refine rc_refused (hh + 1) mm 1 rfl rfl (by omega) rfl hm16 (by omega) (br_t (by decide) (And.intro hin ?_))
  rw [hcl]
  refine br_f hG (And.intro hin (And.intro hin (nm_e (And.intro hin (nm_r (e' := nI l1.length) hx ?_)))))
  refine rc_opn l1 l2 rfl hl (by omega) h ?_
  intro b3 b4 b5 hgp
  refine rc_put l1 l2 rfl (by omega) hgp ?_
  intro c3 c4 c5 hcd
  have hL2 : (l1 ++ ((3 : Int32), 3 + nI g, (0 : Int32)) :: l2).length = (l1 ++ l2).length + 1 := by
    rw [List.length_append, List.length_append, List.length_cons]; omega
  refine rc_emit (l1 ++ (3, 3 + nI g, 0) :: l2) (by rw [hL2]) (by omega) hcd ?_
  intro d3 d4 d5 hcd'
  refine nm_r (nI_1 mm) ?_
  have := H d3 d4 d5 hcd'
  rw [hL2]
  exact this
theorem rc_alt {post : Int32 → St2 → Prop} (l1 l2 l3 : List (Int32 × Int32 × Int32)) (hh mm : Nat) (hH : vh = nI (hh + 2)) (hh6 : hh + 1 < 6) (hM : vm = nI mm) (hm16 : mm < 16) (hl : vl = nI ((l1 ++ l2) ++ l3).length) (hlen : ((l1 ++ l2) ++ l3).length < 60) (h : rc_cd a3 a4 a5 ((l1 ++ l2) ++ l3)) (hx : a1 hh = nI l1.length) (hy : a1 (hh + 1) = nI (l1 ++ l2).length)
    (H : ∀ b3 b4 b5, rc_cd b3 b4 b5 (l1 ++ (1, 1, nI (l2.length + 2)) :: (l2 ++ (2, nI (l3.length + 1), 0) :: l3)) → post (nI (hh + 1)) (nI (hh + 1), nI (mm + 1), nI (((l1 ++ l2) ++ l3).length + 2), vz, vn, vc, vd, vw, ve, a1, upd a2 hh ((a2 hh) ||| (a2 (hh + 1))), b3, b4, b5, a6, a7, a8, a9, a10, a11, a12, a13, a14, a15, a16, a17, a18, a19)) : wpX_alt post (vh, vm, vl, vz, vn, vc, vd, vw, ve, a1, a2, a3, a4, a5, a6, a7, a8, a9, a10, a11, a12, a13, a14, a15, a16, a17, a18, a19) := by
  subst hH hM
  have hL : (l1 ++ l2).length = l1.length + l2.length := List.length_append
  have hL3 : ((l1 ++ l2) ++ l3).length = l1.length + l2.length + l3.length := by rw [List.length_append, hL]
  have e1 : nI (hh + 2) - 1 = nI (hh + 1) := nI_pred (hh + 1)
  have e2 : nI (hh + 2) - 2 = nI hh := pk_sub (a := hh + 2) (b := 2) (by omega)
  have e3 : nI (hh + 1) - 1 = nI hh := nI_pred hh
  have i1 : vp_in (nI (hh + 2) - 1) 6 := pk_in (hh + 1) 6 hh6 e1
  have i2 : vp_in (nI (hh + 2) - 2) 6 := pk_in hh 6 (by omega) e2
  unfold wpX_alt
  refine rc_refused (hh + 2) mm 2 rfl rfl (by omega) rfl hm16 (by omega) (br_t (by decide) ?_)
  refine And.intro i2 (nm_r (e' := nI l1.length) (by rw [pk_cl hh e2]; exact hx) (And.intro i1 (nm_r (e' := nI (l1 ++ l2).length) (by rw [pk_cl (hh + 1) e1]; exact hy) (nm_r (e' := nI l2.length) ?_ (nm_r (e' := nI l3.length) ?_ ?_)))))
  · rw [pk_sub (by omega)]; exact congrArg nI (by omega)
  · rw [hl, pk_sub (by omega)]; exact congrArg nI (by omega)
  refine rc_opn (l1 ++ l2) l3 rfl hl (by omega) h ?_
  intro b3 b4 b5 hgp
  refine rc_put (l1 ++ l2) l3 rfl (by omega) hgp ?_
  intro c3 c4 c5 hcd
  have hcd2 : rc_cd c3 c4 c5 (l1 ++ (l2 ++ (2, nI (l3.length + 1), 0) :: l3)) := by
    rw [← List.append_assoc, ← nI_1]; exact hcd
  have hL4 : (l1 ++ (l2 ++ ((2 : Int32), nI (l3.length + 1), (0 : Int32)) :: l3)).length = ((l1 ++ l2) ++ l3).length + 1 := by
    rw [List.length_append, List.length_append, List.length_cons]; omega
  refine rc_opn l1 (l2 ++ (2, nI (l3.length + 1), 0) :: l3) rfl (by rw [hL4]) (by omega) hcd2 ?_
  intro d3 d4 d5 hgp2
  refine rc_put l1 (l2 ++ (2, nI (l3.length + 1), 0) :: l3) rfl (by omega) hgp2 ?_
  intro f3 f4 f5 hcd3
  refine nm_r e1 (And.intro (pk_in hh 6 (by omega) e3) (And.intro (pk_in (hh + 1) 6 hh6) (And.intro (pk_in hh 6 (by omega) e3) (nm_r (e' := upd a2 hh ((a2 hh) ||| (a2 (hh + 1)))) ?_ (nm_r (nI_1 mm) ?_)))))
  · rw [pk_cl hh e3, nI_clamp (by omega)]
  · have e5 : nI l2.length + 2 = nI (l2.length + 2) := nI_add _ 2
    rw [e5] at hcd3
    have := H f3 f4 f5 hcd3
    rw [hL4]
    exact this
theorem rc_repeat {post : Int32 → St2 → Prop} {p0 : Int32} (lz : Bool) (l1 l2 : List (Int32 × Int32 × Int32)) (hh mm : Nat) (hp0 : p0 = cond lz 0 1) (hH : vh = nI (hh + 1)) (hh6 : hh < 6) (hM : vm = nI mm) (hm16 : mm < 16) (hl : vl = nI (l1 ++ l2).length) (hlen : (l1 ++ l2).length < 60) (h : rc_cd a3 a4 a5 (l1 ++ l2)) (hx : a1 hh = nI l1.length)
    (H : ∀ b3 b4 b5, rc_cd b3 b4 b5 ((l1 ++ (cond lz 6 5, 1, nI (l2.length + 2)) :: l2) ++ [(7, (-nI l2.length) - 1, 0)]) → post (nI (hh + 1)) (vh, nI (mm + 1), nI ((l1 ++ l2).length + 2), vz, vn, vc, vd, vw, ve, a1, a2, b3, b4, b5, a6, a7, a8, a9, a10, a11, a12, a13, a14, a15, a16, a17, a18, a19)) : wpX_repeat post (vh, vm, vl, vz, vn, vc, vd, vw, ve, a1, a2, a3, a4, a5, a6, a7, a8, a9, a10, a11, a12, a13, a14, a15, a16, a17, a18, a19) p0 := by
  subst hH hM
  have hL : (l1 ++ l2).length = l1.length + l2.length := List.length_append
  have e1 : nI (hh + 1) - 1 = nI hh := nI_pred hh
  have e5 : nI l2.length + 2 = nI (l2.length + 2) := nI_add _ 2
  unfold wpX_repeat
  refine rc_refused (hh + 1) mm 1 rfl rfl (by omega) rfl hm16 (by omega) (br_t (by decide) ?_)
  refine And.intro (pk_in hh 6 hh6 e1) (nm_r (e' := nI l1.length) (by rw [pk_cl hh e1]; exact hx) (nm_r (e' := nI l2.length) ?_ ?_))
  · rw [hl, pk_sub (by omega)]; exact congrArg nI (by omega)
  refine rc_opn l1 l2 rfl hl (by omega) h ?_
  intro b3 b4 b5 hgp
  have key : ∀ z0, z0 = cond lz 6 5 → wX_repeat_50 post (nI l2.length) z0 (nI l1.length) (nI (hh + 1)) (nI mm) (nI ((l1 ++ l2).length + 1)) vz vn vc vd vw ve a1 a2 b3 b4 b5 a6 a7 a8 a9 a10 a11 a12 a13 a14 a15 a16 a17 a18 a19 := by
    intro z0 hz
    subst hz
    unfold wX_repeat_50
    refine rc_put l1 l2 rfl (by omega) hgp ?_
    intro c3 c4 c5 hcd
    have hL2 : (l1 ++ ((cond lz 6 5 : Int32), (1 : Int32), nI l2.length + 2) :: l2).length = (l1 ++ l2).length + 1 := by
      rw [List.length_append, List.length_append, List.length_cons]; omega
    refine rc_emit (l1 ++ (cond lz 6 5, 1, nI l2.length + 2) :: l2) (by rw [hL2]) (by omega) hcd ?_
    intro d3 d4 d5 hcd'
    refine nm_r (nI_1 mm) ?_
    rw [hL2]
    rw [e5] at hcd'
    exact H d3 d4 d5 hcd'
  cases lz with
  | true => exact br_t hp0 (key _ rfl)
  | false => exact br_f (by rw [hp0]; decide) (key _ rfl)
theorem rc_cat {post : Int32 → St2 → Prop} (hh mm : Nat) (hH : vh = nI (hh + 2)) (hh6 : hh + 1 < 6) (hM : vm = nI mm) (hm16 : mm < 16)
    (H : post (nI (hh + 1)) (nI (hh + 1), nI (mm + 1), vl, vz, vn, vc, vd, vw, ve, a1, upd a2 hh ((a2 hh) ||| (a2 (hh + 1))), a3, a4, a5, a6, a7, a8, a9, a10, a11, a12, a13, a14, a15, a16, a17, a18, a19)) : wpX_cat post (vh, vm, vl, vz, vn, vc, vd, vw, ve, a1, a2, a3, a4, a5, a6, a7, a8, a9, a10, a11, a12, a13, a14, a15, a16, a17, a18, a19) := by
  subst hH hM
  have e1 : nI (hh + 2) - 1 = nI (hh + 1) := nI_pred (hh + 1)
  have e3 : nI (hh + 1) - 1 = nI hh := nI_pred hh
  unfold wpX_cat
  refine rc_refused (hh + 2) mm 2 rfl rfl (by omega) rfl hm16 (by omega) (br_t (by decide) ?_)
  refine nm_r e1 (And.intro (pk_in hh 6 (by omega) e3) (And.intro (pk_in (hh + 1) 6 hh6) (And.intro (pk_in hh 6 (by omega) e3) (nm_r (e' := upd a2 hh ((a2 hh) ||| (a2 (hh + 1)))) ?_ (nm_r (nI_1 mm) H)))))
  rw [pk_cl hh e3, nI_clamp (by omega)]
theorem rc_define {post : Int32 → St2 → Prop} (hh len : Nat) (hH : vh = nI (hh + 1)) (hh6 : hh < 6) (hl : vl = nI len) (hlen : len < 63) (hx : a1 hh = 0)
    (H : ∀ b6 b7 b8, (∀ j, j < len → b6 j = a3 j ∧ b7 j = a4 j ∧ b8 j = a5 j) → b6 len = 4 → post (nI (hh + 1)) (0, 0, 0, nI (len + 1), vn, vc, vd, vw, ve, a1, a2, a3, a4, a5, b6, b7, b8, a9, a10, a11, a12, a13, a14, a15, a16, a17, a18, a19)) : wpX_define post (vh, vm, vl, vz, vn, vc, vd, vw, ve, a1, a2, a3, a4, a5, a6, a7, a8, a9, a10, a11, a12, a13, a14, a15, a16, a17, a18, a19) := by
  subst hH hl
  have e1 : nI (hh + 1) - 1 = nI hh := nI_pred hh
  refine br_f (nI_ne0 (by omega) (by omega)) (And.intro (pk_in hh 6 hh6 e1) (nm_r (e' := nI 0) (by rw [pk_cl hh e1]; exact hx) ?_))
  refine pk_loop (fun n i (s : (Nat → Int32) × (Nat → Int32) × (Nat → Int32)) => wX_define_29 post (nI (hh + 1)) vm (nI len) vn vc vd vw ve n (nI i) (nI i) a1 a2 a3 a4 a5 s.1 s.2.1 s.2.2 a9 a10 a11 a12 a13 a14 a15 a16 a17 a18 a19) (fun i s => ∀ j, j < i → s.1 j = a3 j ∧ s.2.1 j = a4 j ∧ s.2.2 j = a5 j) len 0 (a6, a7, a8) (by omega) (fun k hk => absurd hk (by omega)) ?_ ?_
  · intro n s h
    refine pk_le len len (fun _ => And.intro (pk_in len 64 (by omega)) (nm_r (e' := upd s.1 len 4) (by rw [nI_clamp (by omega)]) (nm_r (nI_1 len) ?_))) (fun z => absurd z (by omega))
    refine H _ _ _ (fun j hj => ?_) pk_us
    rw [pk_un (by omega)]
    exact h j hj
  · intro n i s hi h hW
    have hin : vp_in (nI i) 64 := pk_in i 64 (by omega)
    have hc : (nI i).toNatClampNeg = i := nI_clamp (by omega)
    refine pk_le len i (fun z => absurd z (by omega)) (fun _ => And.intro hin (And.intro hin (nm_r (e' := upd s.1 i (a3 i)) (by rw [hc]) (And.intro hin (And.intro hin (nm_r (e' := upd s.2.1 i (a4 i)) (by rw [hc]) (And.intro hin (And.intro hin (nm_r (e' := upd s.2.2 i (a5 i)) (by rw [hc]) (nm_r (nI_1 i) (nm_r (nI_1 i) ?_)))))))))))
    refine hW (upd s.1 i (a3 i), upd s.2.1 i (a4 i), upd s.2.2 i (a5 i)) ?_
    intro j hj
    exact ⟨rc_fill0 rfl rfl (fun k hk => (h k hk).1) j hj, rc_fill0 rfl rfl (fun k hk => (h k hk).2.1) j hj, rc_fill0 rfl rfl (fun k hk => (h k hk).2.2) j hj⟩
theorem rc_feed {post : Int32 → St2 → Prop} {p0 : Int32} (n c : Nat) (hc : p0 = nI c) (hc3 : c < 3) (hn : vn = nI n) (hn9 : n ≤ 9) (H : post (nI (n + 1)) (vh, vm, vl, vz, nI (n + 1), vc, vd, vw, ve, a1, a2, a3, a4, a5, a6, a7, a8, upd a9 n (nI c), a10, a11, a12, a13, a14, a15, a16, a17, a18, a19)) : wpX_feed post (vh, vm, vl, vz, vn, vc, vd, vw, ve, a1, a2, a3, a4, a5, a6, a7, a8, a9, a10, a11, a12, a13, a14, a15, a16, a17, a18, a19) p0 := by
  subst hc hn
  refine br_f (nI_pos (by omega)) (br_t (nI_le (b := 2) (by omega) (by omega)) (br_f (fun z => absurd ((nI_eq (b := 10) (by omega) (by omega)).mp z) (by omega)) (And.intro (pk_in n 10 (by omega)) (nm_r (by rw [nI_clamp (by omega)]) (nm_r (nI_1 n) H)))))
end
end
section
def rc_T (x0 : Int32) (i : Nat) : Nat := ((x0 >>> ((2 * nI i) &&& 31)).toBitVec.toNat % 4) % 3
theorem rc_T3 (x0 : Int32) (i : Nat) : rc_T x0 i < 3 := Nat.mod_lt _ (by decide)
theorem rc_TE (x0 : Int32) (i : Nat) : ((x0 >>> ((2 * nI i) &&& 31)) &&& 3) - ((x0 >>> ((2 * nI i) &&& 31)) &&& 3) / 3 * 3 = nI (rc_T x0 i) := by
  have h : (x0 >>> ((2 * nI i) &&& 31)) &&& 3 = nI ((x0 >>> ((2 * nI i) &&& 31)).toBitVec.toNat % 4) := pk_and _ 2 (by decide)
  rw [h]
  have hl : (x0 >>> ((2 * nI i) &&& 31)).toBitVec.toNat % 4 < 4 := Nat.mod_lt _ (by decide)
  exact pk_rem (d := 3) (by omega) (by decide) (by decide)
section
variable {vh vm vl vz vn vc vd vw ve : Int32} {a1 a2 a3 a4 a5 a6 a7 a8 a9 a10 a11 a12 a13 a14 a15 a16 a17 a18 a19 : Nat → Int32}
theorem rc_l319 {post : Int32 → St0 → Prop} {mc ms : Nat} {J : Int32 → Int32 → Int32 → Int32 → Int32 → Int32 → Int32 → Int32 → Int32 → Int32 → Int32 → Int32 → Int32 → Int32 → Int32 → (Nat → Int32) → (Nat → Int32) → (Nat → Int32) → (Nat → Int32) → (Nat → Int32) → (Nat → Int32) → (Nat → Int32) → (Nat → Int32) → (Nat → Int32) → (Nat → Int32) → (Nat → Int32) → (Nat → Int32) → (Nat → Int32) → (Nat → Int32) → (Nat → Int32) → (Nat → Int32) → (Nat → Int32) → (Nat → Int32) → (Nat → Int32) → Prop} {x0 x5 x6 x8 x9 x10 x11 x12 x13 x14 x15 z0 : Int32} {kc ks : Nat} (i c : Nat) (hc : c < 3)
    (H : J (if c = 2 then nI i else x11) x12 x13 x15 z0 (nI (i + 1)) vh vm vl vz vn vc vd vw ve a1 a2 a3 a4 a5 a6 a7 a8 a9 a10 a11 a12 a13 a14 a15 a16 a17 a18 a19) : wL_lawOf_319 post mc ms J x0 x5 x6 x8 x9 x10 x11 x12 x13 x14 x15 (nI i) (nI c) z0 kc ks vh vm vl vz vn vc vd vw ve a1 a2 a3 a4 a5 a6 a7 a8 a9 a10 a11 a12 a13 a14 a15 a16 a17 a18 a19 := by
  refine pk_eq c 2 (fun h => nm_r (nI_1 i) ?_) (fun h => nm_r (nI_1 i) ?_)
  · rw [if_pos h] at H; exact H
  · rw [if_neg h] at H; exact H
theorem rc_l311 {post : Int32 → St0 → Prop} {mc ms : Nat} {J : Int32 → Int32 → Int32 → Int32 → Int32 → Int32 → Int32 → Int32 → Int32 → Int32 → Int32 → Int32 → Int32 → Int32 → Int32 → (Nat → Int32) → (Nat → Int32) → (Nat → Int32) → (Nat → Int32) → (Nat → Int32) → (Nat → Int32) → (Nat → Int32) → (Nat → Int32) → (Nat → Int32) → (Nat → Int32) → (Nat → Int32) → (Nat → Int32) → (Nat → Int32) → (Nat → Int32) → (Nat → Int32) → (Nat → Int32) → (Nat → Int32) → (Nat → Int32) → (Nat → Int32) → Prop} {x0 x5 x6 x8 x9 x10 x11 x12 x13 x14 x15 : Int32} {kc ks : Nat} (i c : Nat) (hc : c < 3) (p q : Bool)
    (H : J (if c = 2 then nI i else x11) x12 x13 x15 (cond (p == q) 1 0) (nI (i + 1)) vh vm vl vz vn vc vd vw ve a1 a2 a3 a4 a5 a6 a7 a8 a9 a10 a11 a12 a13 a14 a15 a16 a17 a18 a19) : wL_lawOf_311 post mc ms J x0 x5 x6 x8 x9 x10 x11 x12 x13 x14 x15 (nI i) (nI c) (cond q 1 0) (cond p 1 0) kc ks vh vm vl vz vn vc vd vw ve a1 a2 a3 a4 a5 a6 a7 a8 a9 a10 a11 a12 a13 a14 a15 a16 a17 a18 a19 := by
  cases p <;> cases q
  · exact br_t (by decide) (rc_l319 i c hc H)
  · refine br_f (by decide) ?_
    unfold wL_lawOf_318
    exact rc_l319 i c hc H
  · refine br_f (by decide) ?_
    unfold wL_lawOf_318
    exact rc_l319 i c hc H
  · exact br_t (by decide) (rc_l319 i c hc H)
theorem rc_l297 {post : Int32 → St0 → Prop} {mc ms : Nat} {J : Int32 → Int32 → Int32 → Int32 → Int32 → Int32 → Int32 → Int32 → Int32 → Int32 → Int32 → Int32 → Int32 → Int32 → Int32 → (Nat → Int32) → (Nat → Int32) → (Nat → Int32) → (Nat → Int32) → (Nat → Int32) → (Nat → Int32) → (Nat → Int32) → (Nat → Int32) → (Nat → Int32) → (Nat → Int32) → (Nat → Int32) → (Nat → Int32) → (Nat → Int32) → (Nat → Int32) → (Nat → Int32) → (Nat → Int32) → (Nat → Int32) → (Nat → Int32) → (Nat → Int32) → Prop} {x0 x5 x6 x8 x9 x10 x11 x12 x13 x14 x15 : Int32} {kc ks : Nat} (i c n : Nat) (hc : c < 3) (hi : i < n) (hn : n < 100) (h5 : x5 = nI n) (p : Bool)
    (H : J (if c = 2 then nI i else x11) x12 x13 x15 (cond (p == decide (i + 1 = n)) 1 0) (nI (i + 1)) vh vm vl vz vn vc vd vw ve a1 a2 a3 a4 a5 a6 a7 a8 a9 a10 a11 a12 a13 a14 a15 a16 a17 a18 a19) : wL_lawOf_297 post mc ms J x0 x5 x6 x8 x9 x10 x11 x12 x13 x14 x15 (nI i) (nI c) (cond p 1 0) kc ks vh vm vl vz vn vc vd vw ve a1 a2 a3 a4 a5 a6 a7 a8 a9 a10 a11 a12 a13 a14 a15 a16 a17 a18 a19 := by
  have e : x5 - 1 = nI (n - 1) := by
    rw [h5, show n = (n - 1) + 1 by omega]
    exact nI_pred _
  refine pk_eq i (n - 1) (fun h => ?_) (fun h => ?_) rfl e
  · rw [decide_eq_true (show i + 1 = n by omega)] at H
    exact rc_l311 i c hc p true H
  · rw [decide_eq_false (show ¬ i + 1 = n by omega)] at H
    exact rc_l311 i c hc p false H
theorem rc_l279 {post : Int32 → St0 → Prop} {mc ms : Nat} {J : Int32 → Int32 → Int32 → Int32 → Int32 → Int32 → Int32 → Int32 → Int32 → Int32 → Int32 → Int32 → Int32 → Int32 → Int32 → (Nat → Int32) → (Nat → Int32) → (Nat → Int32) → (Nat → Int32) → (Nat → Int32) → (Nat → Int32) → (Nat → Int32) → (Nat → Int32) → (Nat → Int32) → (Nat → Int32) → (Nat → Int32) → (Nat → Int32) → (Nat → Int32) → (Nat → Int32) → (Nat → Int32) → (Nat → Int32) → (Nat → Int32) → (Nat → Int32) → (Nat → Int32) → Prop} {x0 x5 x6 x8 x9 x10 x11 x12 x13 x14 x15 : Int32} {kc ks : Nat} (i c n : Nat) (hc : c < 3) (hi : i < n) (hn : n < 100) (h5 : x5 = nI n) (wh : Bool)
    (H : J (if c = 2 then nI i else x11) x12 x13 x15 (cond (wh && (decide (c = 2) == decide (i + 1 = n))) 1 0) (nI (i + 1)) vh vm vl vz vn vc vd vw ve a1 a2 a3 a4 a5 a6 a7 a8 a9 a10 a11 a12 a13 a14 a15 a16 a17 a18 a19) : wL_lawOf_279 post mc ms J x0 x5 x6 x8 x9 x10 x11 x12 x13 x14 (cond wh 1 0) (nI i) (nI c) x15 kc ks vh vm vl vz vn vc vd vw ve a1 a2 a3 a4 a5 a6 a7 a8 a9 a10 a11 a12 a13 a14 a15 a16 a17 a18 a19 := by
  cases wh with
  | false =>
    refine br_t rfl ?_
    unfold wL_lawOf_318
    exact rc_l319 i c hc H
  | true =>
    refine br_f (by decide) (pk_eq c 2 (fun h => ?_) (fun h => ?_))
    · rw [decide_eq_true h] at H
      exact rc_l297 i c n hc hi hn h5 true H
    · rw [decide_eq_false h] at H
      exact rc_l297 i c n hc hi hn h5 false H
theorem rc_l257 {post : Int32 → St0 → Prop} {mc ms : Nat} {J : Int32 → Int32 → Int32 → Int32 → Int32 → Int32 → Int32 → Int32 → Int32 → Int32 → Int32 → Int32 → Int32 → Int32 → Int32 → (Nat → Int32) → (Nat → Int32) → (Nat → Int32) → (Nat → Int32) → (Nat → Int32) → (Nat → Int32) → (Nat → Int32) → (Nat → Int32) → (Nat → Int32) → (Nat → Int32) → (Nat → Int32) → (Nat → Int32) → (Nat → Int32) → (Nat → Int32) → (Nat → Int32) → (Nat → Int32) → (Nat → Int32) → (Nat → Int32) → (Nat → Int32) → Prop} {x0 x5 x6 x8 x9 x10 x11 x12 x13 x14 x15 : Int32} {kc ks : Nat} (i c n : Nat) (hc : c < 3) (hi : i < n) (hn : n < 100) (h5 : x5 = nI n) (wh op : Bool)
    (H : J (if c = 2 then nI i else x11) x12 x13 (if op = true ∧ c = 2 then nI (i + 1) else x15) (cond (wh && (decide (c = 2) == decide (i + 1 = n))) 1 0) (nI (i + 1)) vh vm vl vz vn vc vd vw ve a1 a2 a3 a4 a5 a6 a7 a8 a9 a10 a11 a12 a13 a14 a15 a16 a17 a18 a19) : wL_lawOf_257 post mc ms J x0 x5 x6 x8 x9 x10 x11 x12 x14 x15 (cond wh 1 0) (nI i) (nI c) (cond op 1 0) x13 kc ks vh vm vl vz vn vc vd vw ve a1 a2 a3 a4 a5 a6 a7 a8 a9 a10 a11 a12 a13 a14 a15 a16 a17 a18 a19 := by
  cases op with
  | false =>
    rw [if_neg (show ¬ (false = true ∧ c = 2) by simp)] at H
    refine br_t rfl ?_
    unfold wL_lawOf_277
    exact rc_l279 i c n hc hi hn h5 wh H
  | true =>
    refine br_f (by decide) (pk_eq c 2 (fun h => ?_) (fun h => ?_))
    · rw [if_pos (show true = true ∧ c = 2 from ⟨rfl, h⟩)] at H
      rw [nI_1]
      exact rc_l279 i c n hc hi hn h5 wh H
    · rw [if_neg (show ¬ (true = true ∧ c = 2) from fun z => h z.2)] at H
      unfold wL_lawOf_277
      exact rc_l279 i c n hc hi hn h5 wh H
theorem rc_l232 {post : Int32 → St0 → Prop} {mc ms : Nat} {J : Int32 → Int32 → Int32 → Int32 → Int32 → Int32 → Int32 → Int32 → Int32 → Int32 → Int32 → Int32 → Int32 → Int32 → Int32 → (Nat → Int32) → (Nat → Int32) → (Nat → Int32) → (Nat → Int32) → (Nat → Int32) → (Nat → Int32) → (Nat → Int32) → (Nat → Int32) → (Nat → Int32) → (Nat → Int32) → (Nat → Int32) → (Nat → Int32) → (Nat → Int32) → (Nat → Int32) → (Nat → Int32) → (Nat → Int32) → (Nat → Int32) → (Nat → Int32) → (Nat → Int32) → Prop} {x0 x5 x6 x8 x9 x10 x11 x12 x13 x14 x15 : Int32} {kc ks : Nat} (i c n : Nat) (hc : c < 3) (hi : i < n) (hn : n < 100) (h5 : x5 = nI n) (wh op : Bool)
    (H : J (if c = 2 then nI i else x11) x12 (if op = true ∧ c = 1 then nI (17 * i + 1) else x13) (if op = true ∧ c = 2 then nI (i + 1) else x15) (cond (wh && (decide (c = 2) == decide (i + 1 = n))) 1 0) (nI (i + 1)) vh vm vl vz vn vc vd vw ve a1 a2 a3 a4 a5 a6 a7 a8 a9 a10 a11 a12 a13 a14 a15 a16 a17 a18 a19) : wL_lawOf_232 post mc ms J x0 x5 x6 x8 x9 x10 x11 x13 x14 x15 (cond wh 1 0) (nI i) (nI c) (cond op 1 0) x12 kc ks vh vm vl vz vn vc vd vw ve a1 a2 a3 a4 a5 a6 a7 a8 a9 a10 a11 a12 a13 a14 a15 a16 a17 a18 a19 := by
  cases op with
  | false =>
    rw [if_neg (show ¬ (false = true ∧ c = 1) by simp)] at H
    refine br_t rfl ?_
    unfold wL_lawOf_255
    exact rc_l257 i c n hc hi hn h5 wh false H
  | true =>
    refine br_f (by decide) (pk_eq c 1 (fun h => ?_) (fun h => ?_))
    · rw [if_pos (show true = true ∧ c = 1 from ⟨rfl, h⟩)] at H
      rw [show (17 : Int32) * nI i + 1 = nI (17 * i + 1) from by rw [← nI_1, ← pk_mul]; rfl]
      exact rc_l257 i c n hc hi hn h5 wh true H
    · rw [if_neg (show ¬ (true = true ∧ c = 1) from fun z => h z.2)] at H
      unfold wL_lawOf_255
      exact rc_l257 i c n hc hi hn h5 wh true H
theorem rc_l208 {post : Int32 → St0 → Prop} {mc ms : Nat} {J : Int32 → Int32 → Int32 → Int32 → Int32 → Int32 → Int32 → Int32 → Int32 → Int32 → Int32 → Int32 → Int32 → Int32 → Int32 → (Nat → Int32) → (Nat → Int32) → (Nat → Int32) → (Nat → Int32) → (Nat → Int32) → (Nat → Int32) → (Nat → Int32) → (Nat → Int32) → (Nat → Int32) → (Nat → Int32) → (Nat → Int32) → (Nat → Int32) → (Nat → Int32) → (Nat → Int32) → (Nat → Int32) → (Nat → Int32) → (Nat → Int32) → (Nat → Int32) → (Nat → Int32) → Prop} {x0 x5 x6 x8 x9 x10 x11 x12 x13 x14 x15 : Int32} {kc ks : Nat} (i c n : Nat) (hc : c < 3) (hi : i < n) (hn : n < 100) (h5 : x5 = nI n) (wh op : Bool)
    (H : J (if c = 2 then nI i else x11) (if op = true ∧ c = 0 then nI (17 * i + 1) else x12) (if op = true ∧ c = 1 then nI (17 * i + 1) else x13) (if op = true ∧ c = 2 then nI (i + 1) else x15) (cond (wh && (decide (c = 2) == decide (i + 1 = n))) 1 0) (nI (i + 1)) vh vm vl vz vn vc vd vw ve a1 a2 a3 a4 a5 a6 a7 a8 a9 a10 a11 a12 a13 a14 a15 a16 a17 a18 a19) : wL_lawOf_208 post mc ms J x0 x5 x6 x8 x9 x10 x11 x12 x13 x14 x15 (cond wh 1 0) (nI i) (nI c) (cond op 1 0) kc ks vh vm vl vz vn vc vd vw ve a1 a2 a3 a4 a5 a6 a7 a8 a9 a10 a11 a12 a13 a14 a15 a16 a17 a18 a19 := by
  cases op with
  | false =>
    rw [if_neg (show ¬ (false = true ∧ c = 0) by simp)] at H
    refine br_t rfl ?_
    unfold wL_lawOf_230
    exact rc_l232 i c n hc hi hn h5 wh false H
  | true =>
    refine br_f (by decide) (pk_eq c 0 (fun h => ?_) (fun h => ?_))
    · rw [if_pos (show true = true ∧ c = 0 from ⟨rfl, h⟩)] at H
      rw [show (17 : Int32) * nI i + 1 = nI (17 * i + 1) from by rw [← nI_1, ← pk_mul]; rfl]
      exact rc_l232 i c n hc hi hn h5 wh true H
    · rw [if_neg (show ¬ (true = true ∧ c = 0) from fun z => h z.2)] at H
      unfold wL_lawOf_230
      exact rc_l232 i c n hc hi hn h5 wh true H
/-! the first loop -/
def rc_la (T : Nat → Nat) (m : Nat) (x11 : Int32) : Prop := (x11 = -1 ∧ rc_cc T m = 0) ∨ (¬ x11 < 0 ∧ 0 < rc_cc T m)
def rc_wf (T : Nat → Nat) (n m : Nat) (wh : Bool) : Prop := wh = true ↔ (0 < n ∧ ∀ j, j < m → (T j = 2 ↔ j + 1 = n))
theorem rc_la_s {T : Nat → Nat} {m : Nat} {x11 : Int32} (hm : m < 100) (h : rc_la T m x11) : rc_la T (m + 1) (if T m = 2 then nI m else x11) := by
  unfold rc_la
  rw [rc_cc_s]
  by_cases e : T m = 2
  · rw [if_pos e, if_pos e]
    exact Or.inr ⟨nI_pos (by omega), by omega⟩
  · rw [if_neg e, if_neg e]
    exact h
theorem rc_wf_s {T : Nat → Nat} {n m : Nat} {wh : Bool} (h : rc_wf T n m wh) : rc_wf T n (m + 1) (wh && (decide (T m = 2) == decide (m + 1 = n))) := by
  unfold rc_wf at *
  rw [Bool.and_eq_true, h, beq_iff_eq, decide_eq_decide]
  constructor
  · intro ⟨⟨h1, h2⟩, h3⟩
    refine ⟨h1, fun j hj => ?_⟩
    by_cases e : j = m
    · subst e; exact h3
    · exact h2 j (by omega)
  · intro ⟨h1, h2⟩
    exact ⟨⟨h1, fun j hj => h2 j (by omega)⟩, h2 m (by omega)⟩
theorem rc_ov_s {T : Nat → Nat} {s m : Nat} : (if (decide (s ≤ m ∧ rc_ff T s m = none)) = true ∧ T m = 2 then nI (m + 1) else rc_ov (fun q => nI (q + 1)) (rc_ff T s m)) = rc_ov (fun q => nI (q + 1)) (rc_ff T s (m + 1)) := by
  cases h : rc_ff T s m with
  | some q =>
    rw [rc_ff_k h, if_neg (by simp)]
  | none =>
    rw [rc_ff_s h]
    by_cases c : s ≤ m ∧ T m = 2
    · rw [if_pos c, if_pos ⟨by simp [c.1], c.2⟩]; rfl
    · rw [if_neg c, if_neg (by simp; omega)]
theorem rc_zz_o {T : Nat → Nat} {s m g : Nat} : (if (decide (s ≤ m ∧ rc_ff T s m = none)) = true ∧ T m = g then nI (17 * m + 1) else rc_zz T s g m) = rc_zz T s g (m + 1) := by
  rw [rc_zz_s]
  by_cases c : rc_ff T s m = none ∧ s ≤ m ∧ T m = g
  · rw [if_pos c, if_pos ⟨by simp [c.1, c.2.1], c.2.2⟩]
  · rw [if_neg c, if_neg]
    intro z
    have z1 := of_decide_eq_true z.1
    exact c ⟨z1.2, z1.1, z.2⟩
theorem rc_ov_neg {T : Nat → Nat} {s m : Nat} (hm : m < 100) : 0 ≤ rc_ov (fun q => nI (q + 1)) (rc_ff T s m) ↔ rc_ff T s m ≠ none := by
  cases h : rc_ff T s m with
  | none => exact ⟨fun z => absurd z (by decide), fun z => absurd rfl z⟩
  | some q =>
    have := (rc_ff_in m q h).2.1
    exact ⟨fun _ => by simp, fun _ => nI_pos' (by omega)⟩
theorem rc_txt_s {T : Nat → Nat} {m : Nat} {b9 : Nat → Int32} (hT : T m < 3) (h : rc_txt T m b9) : rc_txt T (m + 1) (upd b9 m (nI (T m))) := by
  intro j hj
  by_cases e : j = m
  · subst e; exact ⟨pk_us, hT⟩
  · rw [pk_un e]; exact h j (by omega)
theorem rc_law1 {post : Int32 → St0 → Prop} {mc ms : Nat} {x0 x5 x6 x8 x9 x10 : Int32} {kc ks : Nat} (n s : Nat) (hn : n ≤ 7) (hs : s ≤ 7) (h5 : x5 = nI n) (h6 : x6 = nI s)
    (H : ∀ x11 wh b9, rc_la (rc_T x0) n x11 → rc_wf (rc_T x0) n n wh → rc_txt (rc_T x0) n b9 → ∀ z0, (rc_ff (rc_T x0) s n = none → z0 = 0) → (rc_ff (rc_T x0) s n ≠ none → z0 = 1) → wL_lawOf_352 post mc ms x0 x5 x6 x8 x9 x10 x11 (rc_zz (rc_T x0) s 0 n) (rc_zz (rc_T x0) s 1 n) x6 (rc_ov (fun q => nI (q + 1)) (rc_ff (rc_T x0) s n)) (cond wh 1 0) z0 kc ks vh vm vl vz (nI n) vc vd vw ve a1 a2 a3 a4 a5 a6 a7 a8 b9 a10 a11 a12 a13 a14 a15 a16 a17 a18 a19) :
    ∀ (k i m : Nat) (x11 : Int32) (wh : Bool) (b9 : Nat → Int32), i + k = 8 → m = min i n → rc_la (rc_T x0) m x11 → rc_wf (rc_T x0) n m wh → rc_txt (rc_T x0) m b9 → wL_lawOf_157 post mc ms x0 x5 x6 x8 x9 x10 x6 kc ks (k + 1) x11 (rc_zz (rc_T x0) s 0 m) (rc_zz (rc_T x0) s 1 m) (rc_ov (fun q => nI (q + 1)) (rc_ff (rc_T x0) s m)) (cond wh 1 0) (nI i) vh vm vl vz (nI m) vc vd vw ve a1 a2 a3 a4 a5 a6 a7 a8 b9 a10 a11 a12 a13 a14 a15 a16 a17 a18 a19 := by
  intro k
  induction k with
  | zero =>
    intro i m x11 wh b9 hk hm hla hwf htx
    have hmn : m = n := by omega
    subst hmn
    refine pk_le 8 i (fun _ => br_c (fun z => H x11 wh b9 hla hwf htx 0 (fun _ => rfl) (fun w => ?_)) (fun z => H x11 wh b9 hla hwf htx 1 (fun w => ?_) (fun _ => rfl))) (fun z => absurd z (by omega))
    · exfalso
      cases hf : rc_ff (rc_T x0) s m with
      | none => exact w hf
      | some q =>
        rw [hf] at z
        have := (rc_ff_in m q hf).2.1
        exact nI_nle (n := q + 1) (by omega) (by omega) z
    · exfalso
      rw [w] at z
      exact z (by decide)
  | succ k ih =>
    intro i m x11 wh b9 hk hm hla hwf htx
    refine pk_le 8 i (fun z => absurd z (by omega)) (fun _ => And.intro (by decide) (nm_r (rc_TE x0 i) (pk_le n i (fun h => nm_r (nI_1 i) ?_) (fun h => ?_) h5)))
    · exact ih (i + 1) m x11 wh b9 (by omega) (by omega) hla hwf htx
    · have hmi : m = i := by omega
      subst hmi
      refine rc_feed m (rc_T x0 m) rfl (rc_T3 x0 m) rfl (by omega) ?_
      have key : ∀ op : Bool, op = decide (s ≤ m ∧ rc_ff (rc_T x0) s m = none) → wL_lawOf_208 post mc ms (wL_lawOf_157 post mc ms x0 x5 x6 x8 x9 x10 x6 kc ks (k + 1)) x0 x5 x6 x8 x9 x10 x11 (rc_zz (rc_T x0) s 0 m) (rc_zz (rc_T x0) s 1 m) x6 (rc_ov (fun q => nI (q + 1)) (rc_ff (rc_T x0) s m)) (cond wh 1 0) (nI m) (nI (rc_T x0 m)) (cond op 1 0) kc ks vh vm vl vz (nI (m + 1)) vc vd vw ve a1 a2 a3 a4 a5 a6 a7 a8 (upd b9 m (nI (rc_T x0 m))) a10 a11 a12 a13 a14 a15 a16 a17 a18 a19 := by
        intro op hop
        refine rc_l208 m (rc_T x0 m) n (rc_T3 x0 m) h (by omega) h5 wh op ?_
        subst hop
        rw [rc_zz_o, rc_zz_o, rc_ov_s]
        exact ih (m + 1) (m + 1) _ _ _ (by omega) (by omega) (rc_la_s (by omega) hla) (rc_wf_s hwf) (rc_txt_s (rc_T3 x0 m) htx)
      refine pk_lt m s (fun z => ?_) (fun z => br_c (fun w => ?_) (fun w => ?_)) rfl h6
      · unfold wL_lawOf_207
        exact key false (decide_eq_false (by omega)).symm
      · unfold wL_lawOf_207
        refine key false (decide_eq_false ?_).symm
        intro y
        exact (rc_ov_neg (by omega)).mp w y.2
      · refine key true (decide_eq_true ⟨z, ?_⟩).symm
        cases hf : rc_ff (rc_T x0) s m with
        | none => rfl
        | some q => exact absurd ((rc_ov_neg (T := rc_T x0) (s := s) (m := m) (by omega)).mpr (by rw [hf]; simp)) w
/-! the second loop -/
theorem rc_l431 {post : Int32 → St0 → Prop} {mc ms : Nat} {J : Int32 → Int32 → Int32 → Int32 → Prop} {x0 x5 x6 x8 x9 x10 x11 x12 x13 x14 x15 x16 x17 : Int32} {kc ks : Nat} {z0 : Int32} (i k b : Nat) (two : Bool)
    (H : J (nI (cond two (k + 1) k)) z0 (nI (cond two (i + 1) b)) (nI (i + 1))) : wL_lawOf_431 post mc ms J x0 x5 x6 x8 x9 x10 x11 x12 x13 x14 x15 x16 x17 (nI k) (nI b) (nI i) (cond two 1 0) z0 kc ks vh vm vl vz vn vc vd vw ve a1 a2 a3 a4 a5 a6 a7 a8 a9 a10 a11 a12 a13 a14 a15 a16 a17 a18 a19 := by
  cases two with
  | false =>
    refine br_t rfl ?_
    unfold wL_lawOf_447
    exact br_t rfl (nm_r (nI_1 i) H)
  | true =>
    refine br_f (by decide) ?_
    unfold wL_lawOf_447
    refine br_f (by decide) (nm_r (nI_1 k) (nm_r (nI_1 i) ?_))
    rw [nI_1]
    exact H
theorem rc_law2 {post : Int32 → St0 → Prop} {mc ms : Nat} {x0 x5 x6 x8 x9 x10 x11 x12 x13 x14 x15 x16 x17 : Int32} {kc ks : Nat} (n : Nat) (hn : n ≤ 7) (h5 : x5 = nI n)
    (H : ∀ fu, wL_lawOf_367 post mc ms x0 x5 x6 x8 x9 x10 x11 x12 x13 x14 x15 x16 x17 kc ks vh vm vl vz vn vc vd vw ve a1 a2 a3 a4 a5 a6 a7 a8 a9 a10 a11 a12 a13 a14 a15 a16 a17 a18 a19 (fu + 1) (nI (rc_cc (rc_T x0) n)) (rc_lo (rc_T x0) n) (nI (rc_be (rc_T x0) n)) (nI 8)) :
    ∀ (k i m : Nat), i + k = 8 → m = min i n → wL_lawOf_367 post mc ms x0 x5 x6 x8 x9 x10 x11 x12 x13 x14 x15 x16 x17 kc ks vh vm vl vz vn vc vd vw ve a1 a2 a3 a4 a5 a6 a7 a8 a9 a10 a11 a12 a13 a14 a15 a16 a17 a18 a19 (k + 1) (nI (rc_cc (rc_T x0) m)) (rc_lo (rc_T x0) m) (nI (rc_be (rc_T x0) m)) (nI i) := by
  intro k
  induction k with
  | zero =>
    intro i m hk hm
    have hmn : m = n := by omega
    have hi : i = 8 := by omega
    subst hmn hi
    exact H 0
  | succ k ih =>
    intro i m hk hm
    have no : (m + 1 = min (i + 1) n ∧ m = i ∧ rc_T x0 m ≠ 2) ∨ m = min (i + 1) n → wL_lawOf_399 post mc ms (wL_lawOf_367 post mc ms x0 x5 x6 x8 x9 x10 x11 x12 x13 x14 x15 x16 x17 kc ks vh vm vl vz vn vc vd vw ve a1 a2 a3 a4 a5 a6 a7 a8 a9 a10 a11 a12 a13 a14 a15 a16 a17 a18 a19 (k + 1)) x0 x5 x6 x8 x9 x10 x11 x12 x13 x14 x15 x16 x17 (nI (rc_cc (rc_T x0) m)) (rc_lo (rc_T x0) m) (nI (rc_be (rc_T x0) m)) (nI i) kc ks vh vm vl vz vn vc vd vw ve a1 a2 a3 a4 a5 a6 a7 a8 a9 a10 a11 a12 a13 a14 a15 a16 a17 a18 a19 := by
      intro h
      unfold wL_lawOf_399
      refine br_t rfl ?_
      unfold wL_lawOf_429
      refine rc_l431 i _ _ false ?_
      rcases h with ⟨h1, h2, h3⟩ | h
      · have := ih (i + 1) (m + 1) (by omega) h1
        rw [rc_cc_s, rc_lo_s, rc_be_s, if_neg h3, if_neg h3, if_neg h3] at this
        exact this
      · exact ih (i + 1) m (by omega) h
    refine pk_le 8 i (fun z => absurd z (by omega)) (fun _ => pk_le n i (fun h => ?_) (fun h => And.intro (by decide) ?_) h5)
    · exact no (Or.inr (by omega))
    · have hmi : m = i := by omega
      subst hmi
      rw [rc_TE]
      refine pk_eq (rc_T x0 m) 2 (fun e => ?_) (fun e => ?_) rfl rfl (Nat.lt_of_lt_of_le (rc_T3 x0 m) (by decide))
      · have := ih (m + 1) (m + 1) (by omega) (by omega)
        rw [rc_cc_s, rc_lo_s, rc_be_s, if_pos e, if_pos e, if_pos e, ← nI_1 m] at this
        refine br_f (by decide) (br_c (fun z => ?_) (fun z => ?_))
        · rw [if_pos z, nI_1] at this
          unfold wL_lawOf_429
          exact rc_l431 m _ _ true this
        · rw [if_neg z] at this
          refine rc_l431 m _ _ true ?_
          dsimp only [cond_true]
          rw [← nI_1 m]
          exact this
      · exact no (Or.inl ⟨by omega, rfl, e⟩)
end
end
section
theorem rc_wf_wh {T : Nat → Nat} {n : Nat} {wh : Bool} (h : rc_wf T n n wh) : wh = true ↔ rc_wh T n := by
  refine h.trans ⟨fun ⟨h1, h2⟩ => ?_, fun ⟨q, h1, h2⟩ => ?_⟩
  · refine ⟨n - 1, ?_, by omega⟩
    have h0 : rc_ff T 0 (n - 1) = none := (rc_ff_no (n - 1)).mpr (fun j _ hj z => absurd ((h2 j (by omega)).mp z) (by omega))
    have ht : T (n - 1) = 2 := (h2 (n - 1) (by omega)).mpr (by omega)
    have := rc_ff_s h0
    rw [if_pos ⟨Nat.zero_le _, ht⟩, show n - 1 + 1 = n by omega] at this
    exact this
  · obtain ⟨_, g2, g3, g4⟩ := rc_ff_in n q h1
    refine ⟨by omega, fun j hj => ⟨fun z => ?_, fun z => ?_⟩⟩
    · by_cases e : j < q
      · exact absurd z ((rc_ff_no q).mp g4 j (Nat.zero_le _) e)
      · omega
    · rw [show j = q by omega]; exact g3
section
variable {vh vm vl vz vn vc vd vw ve : Int32} {a1 a2 a3 a4 a5 a6 a7 a8 a9 a10 a11 a12 a13 a14 a15 a16 a17 a18 a19 : Nat → Int32}
theorem rc_l654 {post : Int32 → St0 → Prop} {mc ms : Nat} {x11 x18 z0 z1 : Int32} {kc ks : Nat} (T : Nat → Nat) (n : Nat) (hn9 : n ≤ 9) (hz : z1 = z0) (hla : rc_la T n x11) (h18 : x18 = nI (rc_cc T n)) (H : post 1 ()) : wL_lawOf_654 post mc ms x11 x18 z0 z1 kc ks := by
  have hcl := rc_cc_le T n
  refine br_t hz ?_
  rcases hla with ⟨h1, h2⟩ | ⟨h1, h2⟩
  · rw [h2] at h18
    subst h1 h18
    exact br_f (by decide) (br_t rfl (br_t rfl H))
  · obtain ⟨j, hj, e⟩ := nI_of h1
    refine br_t (by rw [e]; exact nI_pos' hj) (br_f ?_ (br_t rfl H))
    rw [h18]
    exact nI_ne0 h2 (by omega)
theorem rc_l598 {post : Int32 → St0 → Prop} {mc ms : Nat} {x5 x11 x16 x18 x19 z0 z1 : Int32} {kc ks : Nat} (lz : Bool) (T : Nat → Nat) (n : Nat) (wh : Bool) (hn : vn = nI n) (hn9 : n ≤ 9) (hT : rc_txt T n a9) (hp : rc_prog lz a6 a7 a8) (hz : z1 = z0) (h5 : x5 = nI n)
    (hla : rc_la T n x11) (h16 : x16 = cond wh 1 0) (hwh : wh = true ↔ rc_wh T n) (h18 : x18 = nI (rc_cc T n)) (h19 : x19 = rc_lo T n) (H : post 1 ()) : wL_lawOf_598 post mc ms x5 x11 x16 x18 x19 z0 z1 kc ks vh vm vl vz vn vc vd vw ve a1 a2 a3 a4 a5 a6 a7 a8 a9 a10 a11 a12 a13 a14 a15 a16 a17 a18 a19 := by
  subst h5 h16 h19
  refine br_t hz (rc_count lz T n hn hn9 hT hp ?_)
  intro c d w e b10 b11 b12 b13 b14 b15 b16 b17 b18 b19
  refine br_t h18.symm (rc_longest lz T n hn hn9 hT hp ?_)
  intro c d w e b10 b11 b12 b13 b14 b15 b16 b17 b18 b19
  refine br_t rfl ?_
  cases wh with
  | true =>
    have hw : rc_wh T n := hwh.mp rfl
    refine rc_spans lz T n hn hn9 hT hp (fun _ => ?_) (fun z => absurd hw z)
    intro c d w e b10 b11 b12 b13 b14 b15 b16 b17 b18 b19
    refine br_t rfl (rc_gWhole lz T n hn hn9 hT hp (fun _ => ?_) (fun z => absurd hw z))
    intro c d w e b10 b11 b12 b13 b14 b15 b16 b17 b18 b19
    refine br_f (by decide) (rc_l654 T n hn9 ?_ hla h18 H)
    obtain ⟨q, _, hq⟩ := hw
    rw [← hq]
    exact (nI_pred q).symm
  | false =>
    have hw : ¬ rc_wh T n := fun z => absurd (hwh.mpr z) (by decide)
    refine rc_spans lz T n hn hn9 hT hp (fun z => absurd z hw) (fun _ => ?_)
    intro c d w e b10 b11 b12 b13 b14 b15 b16 b17 b18 b19
    refine br_t rfl (rc_gWhole lz T n hn hn9 hT hp (fun z => absurd z hw) (fun _ => ?_))
    intro c d w e b10 b11 b12 b13 b14 b15 b16 b17 b18 b19
    exact br_t rfl (rc_l654 T n hn9 rfl hla h18 H)
theorem rc_l567 {post : Int32 → St0 → Prop} {mc ms : Nat} {x5 x11 x15 x16 x17 x18 x19 z0 z1 : Int32} {kc ks : Nat} (lz : Bool) (T : Nat → Nat) (s n : Nat) (hn : vn = nI n) (hn9 : n ≤ 9) (hT : rc_txt T n a9) (hp : rc_prog lz a6 a7 a8) (hs : s < 100) (hz : z1 = z0)
    (h15 : x15 = rc_ov (fun q => nI (q + 1)) (rc_ff T s n)) (h17n : rc_ff T s n = none → x17 = 0) (h17s : rc_ff T s n ≠ none → x17 = 1)
    (H : ∀ z0 z1 c d w e b10 b11 b12 b13 b14 b15 b16 b17 b18 b19, z1 = z0 → wL_lawOf_598 post mc ms x5 x11 x16 x18 x19 z0 z1 kc ks vh vm vl vz vn c d w e a1 a2 a3 a4 a5 a6 a7 a8 a9 b10 b11 b12 b13 b14 b15 b16 b17 b18 b19) : wL_lawOf_567 post mc ms x5 (nI s) x11 (nI s) x15 x16 x17 x18 x19 z0 z1 kc ks vh vm vl vz vn vc vd vw ve a1 a2 a3 a4 a5 a6 a7 a8 a9 a10 a11 a12 a13 a14 a15 a16 a17 a18 a19 := by
  refine br_t hz (rc_groupIn lz T s n 2 (fun q => nI (16 * s + q)) (by omega) hn hn9 hT hp hs (fun q e G h => h.2.2.2) ?_)
  intro c d w e b10 b11 b12 b13 b14 b15 b16 b17 b18 b19
  cases hf : rc_ff T s n with
  | none => exact br_t (h17n hf) (H _ _ _ _ _ _ _ _ _ _ _ _ _ _ _ _ rfl)
  | some q =>
    refine br_f (by rw [h17s (by rw [hf]; simp)]; decide) (H _ _ _ _ _ _ _ _ _ _ _ _ _ _ _ _ ?_)
    rw [h15, hf]
    show nI (16 * s + q) = nI 16 * nI s + nI (q + 1) - 1
    rw [pk_mul, nI_add, show 16 * s + (q + 1) = (16 * s + q) + 1 by omega, nI_pred]
theorem rc_l544 {post : Int32 → St0 → Prop} {mc ms : Nat} {x5 x11 x13 x14 x15 x16 x17 x18 x19 z0 z1 : Int32} {kc ks : Nat} (lz : Bool) (T : Nat → Nat) (s n : Nat) (hn : vn = nI n) (hn9 : n ≤ 9) (hT : rc_txt T n a9) (hp : rc_prog lz a6 a7 a8) (hs : s < 100) (hz : z1 = z0)
    (h13 : x13 = rc_zz T s 1 n) (h17n : rc_ff T s n = none → x17 = 0) (h17s : rc_ff T s n ≠ none → x17 = 1)
    (H : ∀ z0 z1 c d w e b10 b11 b12 b13 b14 b15 b16 b17 b18 b19, z1 = z0 → wL_lawOf_567 post mc ms x5 (nI s) x11 x14 x15 x16 x17 x18 x19 z0 z1 kc ks vh vm vl vz vn c d w e a1 a2 a3 a4 a5 a6 a7 a8 a9 b10 b11 b12 b13 b14 b15 b16 b17 b18 b19) : wL_lawOf_544 post mc ms x5 (nI s) x11 x13 x14 x15 x16 x17 x18 x19 z0 z1 kc ks vh vm vl vz vn vc vd vw ve a1 a2 a3 a4 a5 a6 a7 a8 a9 a10 a11 a12 a13 a14 a15 a16 a17 a18 a19 := by
  refine br_t hz (rc_groupIn lz T s n 1 (fun _ => rc_zz T s 1 n) (by omega) hn hn9 hT hp hs (fun q e G h => h.2.2.1) ?_)
  intro c d w e b10 b11 b12 b13 b14 b15 b16 b17 b18 b19
  cases hf : rc_ff T s n with
  | none => exact br_t (h17n hf) (H _ _ _ _ _ _ _ _ _ _ _ _ _ _ _ _ rfl)
  | some q => exact br_f (by rw [h17s (by rw [hf]; simp)]; decide) (H _ _ _ _ _ _ _ _ _ _ _ _ _ _ _ _ h13.symm)
theorem rc_l509 {post : Int32 → St0 → Prop} {mc ms : Nat} {x5 x11 x12 x13 x14 x15 x16 x17 x18 x19 z0 z1 : Int32} {kc ks : Nat} (lz : Bool) (T : Nat → Nat) (s n : Nat) (hn : vn = nI n) (hn9 : n ≤ 9) (hT : rc_txt T n a9) (hp : rc_prog lz a6 a7 a8) (hs : s < 100) (hz : z1 = z0)
    (h15 : x15 = rc_ov (fun q => nI (q + 1)) (rc_ff T s n)) (h12 : x12 = rc_zz T s 0 n) (h17n : rc_ff T s n = none → x17 = 0) (h17s : rc_ff T s n ≠ none → x17 = 1)
    (H : ∀ z0 z1 c d w e b10 b11 b12 b13 b14 b15 b16 b17 b18 b19, z1 = z0 → wL_lawOf_544 post mc ms x5 (nI s) x11 x13 x14 x15 x16 x17 x18 x19 z0 z1 kc ks vh vm vl vz vn c d w e a1 a2 a3 a4 a5 a6 a7 a8 a9 b10 b11 b12 b13 b14 b15 b16 b17 b18 b19) : wL_lawOf_509 post mc ms x5 (nI s) x11 x12 x13 x14 x15 x16 x17 x18 x19 z0 z1 kc ks vh vm vl vz vn vc vd vw ve a1 a2 a3 a4 a5 a6 a7 a8 a9 a10 a11 a12 a13 a14 a15 a16 a17 a18 a19 := by
  refine br_t hz (rc_end lz T s n hn hn9 hT hp hs ?_)
  intro c d w e b10 b11 b12 b13 b14 b15 b16 b17 b18 b19
  refine br_t h15.symm (rc_groupIn lz T s n 0 (fun _ => rc_zz T s 0 n) (by omega) hn hn9 hT hp hs (fun q e G h => h.2.1) ?_)
  intro c d w e b10 b11 b12 b13 b14 b15 b16 b17 b18 b19
  cases hf : rc_ff T s n with
  | none => exact br_t (h17n hf) (H _ _ _ _ _ _ _ _ _ _ _ _ _ _ _ _ rfl)
  | some q => exact br_f (by rw [h17s (by rw [hf]; simp)]; decide) (H _ _ _ _ _ _ _ _ _ _ _ _ _ _ _ _ h12.symm)
theorem rc_l352 {post : Int32 → St0 → Prop} {mc ms : Nat} {x0 x11 x17 : Int32} {kc ks : Nat} (lz : Bool) (s n : Nat) (wh : Bool) (hn : vn = nI n) (hn7 : n ≤ 7) (hT : rc_txt (rc_T x0) n a9) (hp : rc_prog lz a6 a7 a8) (hs : s ≤ 7)
    (hla : rc_la (rc_T x0) n x11) (hwf : rc_wf (rc_T x0) n n wh) (h17n : rc_ff (rc_T x0) s n = none → x17 = 0) (h17s : rc_ff (rc_T x0) s n ≠ none → x17 = 1) (H : post 1 ()) :
    wL_lawOf_352 post mc ms x0 (nI n) (nI s) 1 9 1 x11 (rc_zz (rc_T x0) s 0 n) (rc_zz (rc_T x0) s 1 n) (nI s) (rc_ov (fun q => nI (q + 1)) (rc_ff (rc_T x0) s n)) (cond wh 1 0) x17 kc ks vh vm vl vz vn vc vd vw ve a1 a2 a3 a4 a5 a6 a7 a8 a9 a10 a11 a12 a13 a14 a15 a16 a17 a18 a19 := by
  refine Exists.intro 9 (rc_law2 n hn7 rfl ?_ 8 0 0 rfl (by omega))
  intro fu
  refine pk_le 8 8 (fun _ => br_t rfl (br_t rfl (br_t rfl ?_))) (fun z => absurd z (by omega))
  refine rc_find lz (rc_T x0) s n hn (by omega) hT hp (by omega) ?_
  intro c d w e b10 b11 b12 b13 b14 b15 b16 b17 b18 b19
  have K : ∀ z0 z1, z1 = z0 → wL_lawOf_509 post mc ms (nI n) (nI s) x11 (rc_zz (rc_T x0) s 0 n) (rc_zz (rc_T x0) s 1 n) (nI s) (rc_ov (fun q => nI (q + 1)) (rc_ff (rc_T x0) s n)) (cond wh 1 0) x17 (nI (rc_cc (rc_T x0) n)) (rc_lo (rc_T x0) n) z0 z1 kc ks vh vm vl vz vn c d w e a1 a2 a3 a4 a5 a6 a7 a8 a9 b10 b11 b12 b13 b14 b15 b16 b17 b18 b19 := by
    intro z0 z1 hz
    refine rc_l509 lz (rc_T x0) s n hn (by omega) hT hp (by omega) hz rfl rfl h17n h17s ?_
    intro z0 z1 c d w e b10 b11 b12 b13 b14 b15 b16 b17 b18 b19 hz
    refine rc_l544 lz (rc_T x0) s n hn (by omega) hT hp (by omega) hz rfl h17n h17s ?_
    intro z0 z1 c d w e b10 b11 b12 b13 b14 b15 b16 b17 b18 b19 hz
    refine rc_l567 lz (rc_T x0) s n hn (by omega) hT hp (by omega) hz rfl h17n h17s ?_
    intro z0 z1 c d w e b10 b11 b12 b13 b14 b15 b16 b17 b18 b19 hz
    exact rc_l598 lz (rc_T x0) n wh hn (by omega) hT hp hz rfl hla rfl (rc_wf_wh hwf) rfl rfl H
  cases hf : rc_ff (rc_T x0) s n with
  | none =>
    rw [hf] at K
    exact br_t (h17n hf) (K _ _ rfl)
  | some q =>
    rw [hf] at K
    exact br_f (by rw [h17s (by rw [hf]; simp)]; decide) (K _ _ rfl)
def rc_L10 (lz : Bool) : List (Int32 × Int32 × Int32) :=
  [(cond lz 6 5, 1, nI 10), (1, 1, nI 5), (3, 3 + nI 0, 0), (0, nI 0, 0), (3, nI 0, 0), (2, nI 4, 0), (3, 3 + nI 1, 0), (0, nI 1, 0), (3, nI 1, 0), (7, (-nI 8) - 1, 0)]
def rc_L13 (lz : Bool) : List (Int32 × Int32 × Int32) :=
  [(3, 3 + nI 2, 0), (cond lz 6 5, 1, nI 10), (1, 1, nI 5), (3, 3 + nI 0, 0), (0, nI 0, 0), (3, nI 0, 0), (2, nI 4, 0), (3, 3 + nI 1, 0), (0, nI 1, 0), (3, nI 1, 0), (7, (-nI 8) - 1, 0), (3, nI 2, 0), (0, nI 2, 0)]
theorem rc_progI {lz : Bool} {b3 b4 b5 b6 b7 b8 : Nat → Int32} (h : rc_cd b3 b4 b5 (rc_L13 lz)) (h2 : ∀ j, j < 13 → b6 j = b3 j ∧ b7 j = b4 j ∧ b8 j = b5 j) (h3 : b6 13 = 4) : rc_prog lz b6 b7 b8 := by
  have g : ∀ j t, (rc_L13 lz)[j]? = some t → j < 13 → b6 j = t.1 ∧ b7 j = t.2.1 ∧ b8 j = t.2.2 := by
    intro j t ht hj
    obtain ⟨e1, e2, e3⟩ := h j t ht
    obtain ⟨f1, f2, f3⟩ := h2 j hj
    exact ⟨f1.trans e1, f2.trans e2, f3.trans e3⟩
  have q : ∀ j, j < 14 → j = 0 ∨ j = 1 ∨ j = 2 ∨ j = 3 ∨ j = 4 ∨ j = 5 ∨ j = 6 ∨ j = 7 ∨ j = 8 ∨ j = 9 ∨ j = 10 ∨ j = 11 ∨ j = 12 ∨ j = 13 := by
    intro j hj; omega
  intro j hj
  rcases q j hj with e | e | e | e | e | e | e | e | e | e | e | e | e | e
  all_goals subst e
  · obtain ⟨e1, e2, e3⟩ := g 0 _ rfl (by omega)
    rw [e1, e2, e3]
    cases lz <;> decide
  · obtain ⟨e1, e2, e3⟩ := g 1 _ rfl (by omega)
    rw [e1, e2, e3]
    cases lz <;> decide
  · obtain ⟨e1, e2, e3⟩ := g 2 _ rfl (by omega)
    rw [e1, e2, e3]
    cases lz <;> decide
  · obtain ⟨e1, e2, e3⟩ := g 3 _ rfl (by omega)
    rw [e1, e2, e3]
    cases lz <;> decide
  · obtain ⟨e1, e2, e3⟩ := g 4 _ rfl (by omega)
    rw [e1, e2, e3]
    cases lz <;> decide
  · obtain ⟨e1, e2, e3⟩ := g 5 _ rfl (by omega)
    rw [e1, e2, e3]
    cases lz <;> decide
  · obtain ⟨e1, e2, e3⟩ := g 6 _ rfl (by omega)
    rw [e1, e2, e3]
    cases lz <;> decide
  · obtain ⟨e1, e2, e3⟩ := g 7 _ rfl (by omega)
    rw [e1, e2, e3]
    cases lz <;> decide
  · obtain ⟨e1, e2, e3⟩ := g 8 _ rfl (by omega)
    rw [e1, e2, e3]
    cases lz <;> decide
  · obtain ⟨e1, e2, e3⟩ := g 9 _ rfl (by omega)
    rw [e1, e2, e3]
    cases lz <;> decide
  · obtain ⟨e1, e2, e3⟩ := g 10 _ rfl (by omega)
    rw [e1, e2, e3]
    cases lz <;> decide
  · obtain ⟨e1, e2, e3⟩ := g 11 _ rfl (by omega)
    rw [e1, e2, e3]
    cases lz <;> decide
  · obtain ⟨e1, e2, e3⟩ := g 12 _ rfl (by omega)
    rw [e1, e2, e3]
    cases lz <;> decide
  · rw [h3]
    cases lz <;> exact ⟨rfl, fun z => absurd z (by decide), fun z => absurd z (by decide), fun z => absurd z (by decide)⟩
theorem rc_l87 {post : Int32 → St0 → Prop} {mc ms : Nat} {x0 x5 x6 z0 : Int32} {kc ks : Nat} (lz : Bool) (n : Nat) (hn : n ≤ 7) (h5 : x5 = nI n) (hH : vh = nI 1) (hM : vm = nI 6) (hl : vl = nI 10) (h : rc_cd a3 a4 a5 (rc_L10 lz)) (hx : a1 0 = nI 0) (hG : ¬ (((a2 0) >>> (nI 2 &&& 31)) &&& 1) = 1)
    (H : ∀ wh y1 y2 y3 y4 y5 y6 y7 y8, rc_prog lz y6 y7 y8 → (wh = true ↔ 0 < n) → ∃ fu, wL_lawOf_157 post mc ms x0 x5 x6 z0 9 1 x6 kc ks fu (-1) (-4) (-4) (-4) (cond wh 1 0) 0 0 0 0 (nI 14) vn vc vd vw ve y1 y2 y3 y4 y5 y6 y7 y8 a9 a10 a11 a12 a13 a14 a15 a16 a17 a18 a19) :
    wL_lawOf_87 post mc ms x0 x5 x6 z0 kc ks vh vm vl vz vn vc vd vw ve a1 a2 a3 a4 a5 a6 a7 a8 a9 a10 a11 a12 a13 a14 a15 a16 a17 a18 a19 := by
  subst hH hM hl
  unfold wL_lawOf_87
  refine rc_group [] (rc_L10 lz) 0 6 2 rfl (by omega) rfl (by omega) rfl (by omega) (by rfl) (show (10 : Nat) < 60 by omega) h hx hG ?_
  intro b3 b4 b5 hcd
  refine rc_letter ([] ++ (3, 3 + nI 2, 0) :: rc_L10 lz ++ [(3, nI 2, 0)]) 1 7 2 rfl (by omega) rfl (by omega) rfl (by omega) (by cases lz <;> rfl) (by cases lz <;> decide) hcd ?_
  intro c3 c4 c5 hcd'
  refine rc_cat 0 8 rfl (by omega) rfl (by omega) ?_
  unfold wpX_steps
  refine rc_define 0 13 rfl (by omega) (by rfl) (by omega) (by rw [pk_un (by decide)]; exact hx) ?_
  intro b6 b7 b8 g1 g2
  have hp : rc_prog lz b6 b7 b8 := rc_progI (lz := lz) hcd' g1 g2
  refine pk_le n 0 (fun z => ?_) (fun z => ?_) h5
  · exact H false _ _ _ _ _ _ _ _ hp ⟨fun y => absurd y (by decide), fun y => absurd y (by omega)⟩
  · exact H true _ _ _ _ _ _ _ _ hp ⟨fun _ => z, fun _ => rfl⟩
theorem rc_l33 {post : Int32 → St0 → Prop} {mc ms : Nat} {x0 x5 x6 : Int32} {kc ks : Nat} (lz : Bool) (n s : Nat) (hn : n ≤ 7) (hs : s ≤ 7) (h5 : x5 = nI n) (h6 : x6 = nI s) (H : post 1 ()) :
    wL_lawOf_33 post mc ms x0 x5 x6 (cond lz 1 0) kc ks 0 0 0 vz 0 vc vd vw ve (fun _ => 0) (fun _ => 0) a3 a4 a5 a6 a7 a8 a9 a10 a11 a12 a13 a14 a15 a16 a17 a18 a19 := by
  have fin : ∀ (a1 a2 a3 a4 a5 a6 a7 a8 : Nat → Int32) (wh : Bool) (vh vm vl vz : Int32), rc_prog lz a6 a7 a8 → (wh = true ↔ 0 < n) → ∃ fu, wL_lawOf_157 post mc ms x0 x5 x6 1 9 1 x6 kc ks fu (-1) (-4) (-4) (-4) (cond wh 1 0) 0 vh vm vl vz 0 vc vd vw ve a1 a2 a3 a4 a5 a6 a7 a8 a9 a10 a11 a12 a13 a14 a15 a16 a17 a18 a19 := by
    intro a1 a2 a3 a4 a5 a6 a7 a8 wh vh vm vl vz hp hw
    subst h5 h6
    refine Exists.intro 9 (rc_law1 n s hn hs rfl rfl ?_ 8 0 0 (-1) wh a9 rfl (by omega) (Or.inl ⟨rfl, rfl⟩) ⟨fun z => ⟨hw.mp z, fun j hj => absurd hj (by omega)⟩, fun z => hw.mpr z.1⟩ (fun j hj => absurd hj (by omega)))
    intro x11 wh' b9 hla hwf htx z0 g1 g2
    exact rc_l352 lz s n wh' rfl hn htx hp hs hla hwf g1 g2 H
  unfold wL_lawOf_33
  refine rc_letter [] 0 0 0 rfl (by omega) rfl (by omega) rfl (by omega) rfl (show (0 : Nat) < 64 by omega) rc_cd_0 ?_
  intro b3 b4 b5 k1
  refine rc_group [] [(0, nI 0, 0)] 0 1 0 rfl (by omega) rfl (by omega) rfl (by omega) (by rfl) (show (1 : Nat) < 60 by omega) k1 rfl (by decide) ?_
  intro b3 b4 b5 k2
  refine rc_letter [(3, 3 + nI 0, 0), (0, nI 0, 0), (3, nI 0, 0)] 1 2 1 rfl (by omega) rfl (by omega) rfl (by omega) (by rfl) (show (3 : Nat) < 64 by omega) k2 ?_
  intro b3 b4 b5 k3
  refine rc_group [(3, 3 + nI 0, 0), (0, nI 0, 0), (3, nI 0, 0)] [(0, nI 1, 0)] 1 3 1 rfl (by omega) rfl (by omega) rfl (by omega) (by rfl) (show (4 : Nat) < 60 by omega) k3 rfl (by decide) ?_
  intro b3 b4 b5 k4
  refine rc_alt [] [(3, 3 + nI 0, 0), (0, nI 0, 0), (3, nI 0, 0)] [(3, 3 + nI 1, 0), (0, nI 1, 0), (3, nI 1, 0)] 0 4 rfl (by omega) rfl (by omega) (by rfl) (show (6 : Nat) < 60 by omega) k4 rfl rfl ?_
  intro b3 b4 b5 k5
  cases lz with
  | false =>
    refine br_t rfl ?_
    unfold wpX_star
    refine rc_repeat false [] [(1, 1, nI 5), (3, 3 + nI 0, 0), (0, nI 0, 0), (3, nI 0, 0), (2, nI 4, 0), (3, 3 + nI 1, 0), (0, nI 1, 0), (3, nI 1, 0)] 0 5 rfl rfl (by omega) rfl (by omega) (by rfl) (show (8 : Nat) < 60 by omega) k5 rfl ?_
    intro b3 b4 b5 k6
    refine rc_l87 false n hn h5 rfl rfl (by rfl) k6 rfl (by decide) ?_
    intro wh y1 y2 y3 y4 y5 y6 y7 y8 hp hw
    exact fin _ _ _ _ _ _ _ _ wh _ _ _ _ hp hw
  | true =>
    refine br_f (by decide) ?_
    unfold wpX_lazy
    refine rc_repeat true [] [(1, 1, nI 5), (3, 3 + nI 0, 0), (0, nI 0, 0), (3, nI 0, 0), (2, nI 4, 0), (3, 3 + nI 1, 0), (0, nI 1, 0), (3, nI 1, 0)] 0 5 rfl rfl (by omega) rfl (by omega) (by rfl) (show (8 : Nat) < 60 by omega) k5 rfl ?_
    intro b3 b4 b5 k6
    refine rc_l87 true n hn h5 rfl rfl (by rfl) k6 rfl (by decide) ?_
    intro wh y1 y2 y3 y4 y5 y6 y7 y8 hp hw
    exact fin _ _ _ _ _ _ _ _ wh _ _ _ _ hp hw
end
theorem rc_lawOf {post : Int32 → St0 → Prop} (p0 p1 p2 p3 : Int32) (H : post 1 ()) : wpL_lawOf post 3408 54512 () p0 p1 p2 p3 := by
  unfold wpL_lawOf
  obtain ⟨n, hn, en⟩ := pk_andE p1 (m := 7) 3 (by decide)
  obtain ⟨s, hs, es⟩ := pk_andE p2 (m := 7) 3 (by decide)
  refine ⟨by decide, by decide, 3000, 54000, by decide, by decide, ?_⟩
  unfold wpX_init
  refine ⟨by decide, by decide, by decide, by decide, by decide, by decide, by decide, by decide, by decide, by decide, by decide, by decide, by decide, by decide, by decide, by decide, by decide, by decide, by decide, by decide, by decide, by decide, by decide, by decide, by decide, by decide, by decide, by decide, by decide, by decide, by decide, by decide, by decide, by decide, by decide, by decide, by decide, by decide, nm_e ?_⟩
  refine nm_r en (nm_r es (br_c (fun _ => ?_) (fun _ => ?_)))
  · exact rc_l33 true n s (by omega) (by omega) rfl rfl H
  · exact rc_l33 false n s (by omega) (by omega) rfl rfl H
theorem rc_cell {post : Int32 → Prop} {L : Nat} {xs : Nat → Int32} {u : St0} {p1 : Int32} (k : Nat) (hk : p1 = nI k) (hk4 : k < 4) (hL : L ≤ 4) (H : ∀ v, post v) : wpL_cellAt post L xs u p1 :=
  pk_le L k (fun _ => H 0) (fun z => ⟨pk_in k L z hk, H _⟩) rfl hk
theorem i_vc (xs : Nat → Int32) (L : Nat) (hL : L ≤ 4) : wpL_law (fun r => r = 1) L xs := by
  unfold wpL_law
  refine rc_cell 0 rfl (by omega) hL (fun r1 => rc_cell 1 rfl (by omega) hL (fun r2 => rc_cell 2 rfl (by omega) hL (fun r3 => rc_cell 3 rfl (by omega) hL (fun r4 => ?_))))
  exact ⟨3408, 54512, by decide, by decide, rc_lawOf r1 r2 r3 r4 rfl⟩
end
