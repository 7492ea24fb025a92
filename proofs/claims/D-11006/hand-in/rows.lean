section
/-- the reader's numbers: state, gotRecords, gotFields, gotSize, firstFields, regular, holds -/
abbrev cv_R : Type := Int32 × Int32 × Int32 × Int32 × Int32 × Int32 × Int32
/-- the object's whole state, the reader's numbers as one tuple -/
abbrev cv_u (cn dr rw pt kp : Int32) (S : cv_R) (fi so : Int32) (a1 a2 a3 a4 a5 : Nat → Int32) : St2 :=
  (cn, dr, rw, pt, kp, S.1, S.2.1, S.2.2.1, S.2.2.2.1, S.2.2.2.2.1, S.2.2.2.2.2.1, S.2.2.2.2.2.2, fi, so, a1, a2, a3, a4, a5)
def cv_inb (i : Int32) (n : Nat) : Bool := decide (¬ (i < 0 ∨ n ≤ i.toNatClampNeg))
theorem cv_inbT {i : Int32} {n : Nat} (h : cv_inb i n = true) : vp_in i n :=
  of_decide_eq_true (p := ¬ (i < 0 ∨ n ≤ i.toNatClampNeg)) h
theorem cv_o2 {p : Prop} [Decidable p] {i j : Int32} {m n : Nat} (h : (decide p || (cv_inb i m && cv_inb j n)) = true) : p ∨ (vp_in i m ∧ vp_in j n) := by
  simp only [Bool.or_eq_true, Bool.and_eq_true, decide_eq_true_eq] at h
  exact h.imp id (fun z => ⟨cv_inbT z.1, cv_inbT z.2⟩)
/-- take -/
def cv_tk (S : cv_R) : cv_R := (S.1, S.2.1, S.2.2.1, S.2.2.2.1 + 1, S.2.2.2.2.1, S.2.2.2.2.2.1, if S.2.2.2.1 + 1 ≤ 6 then S.2.2.2.2.2.2 else 0)
/-- startField -/
def cv_sf (S : cv_R) : cv_R := (S.1, S.2.1, S.2.2.1 + 1, 0, S.2.2.2.2.1, S.2.2.2.2.2.1, if S.2.2.1 + 1 ≤ 5 then S.2.2.2.2.2.2 else 0)
def cv_s0 (S : cv_R) : cv_R := (S.1, S.2.1, 0, S.2.2.2.1, S.2.2.2.2.1, S.2.2.2.2.2.1, if S.2.1 < 6 then S.2.2.2.2.2.2 else 0)
/-- startRecord -/
def cv_sr (S : cv_R) : cv_R := cv_sf (cv_s0 S)
def cv_ef (S : cv_R) : Int32 := if S.2.1 = 0 then S.2.2.1 else S.2.2.2.2.1
/-- endRecord -/
def cv_er (S : cv_R) : cv_R := (0, S.2.1 + 1, S.2.2.1, S.2.2.2.1, cv_ef S, (if S.2.2.1 = cv_ef S then S.2.2.2.2.2.1 else 0), S.2.2.2.2.2.2)
/-- the state set -/
def cv_ss (S : cv_R) (s : Int32) : cv_R := (s, S.2)
def cv_a4 (c d : Int32) (S : cv_R) : cv_R := if c = 8 then (if d &&& 2 = 0 then cv_ss S 6 else cv_ss S 7) else cv_ss S 7
/-- afterField -/
def cv_af (c d : Int32) (S : cv_R) : cv_R :=
  if c = 5 + (d &&& 1) then cv_ss (cv_sf S) 1 else if c = 9 then (if d &&& 2 = 0 then cv_a4 c d S else cv_er S) else cv_a4 c d S
/-- inQuotes -/
def cv_iq (c d : Int32) (S : cv_R) : cv_R := if c = 7 then cv_ss S 4 else if c = 10 then (if d < 4 then cv_ss S 7 else cv_ss S 5) else cv_tk S
def cv_155 (c d : Int32) (S : cv_R) : cv_R :=
  if S.1 = 4 then cv_af c d S else if 7 ≤ c then cv_af c d S else if c = 5 + (d &&& 1) then cv_af c d S else cv_tk (cv_ss S 2)
def cv_70 (c d : Int32) (S : cv_R) : cv_R :=
  if S.1 = 5 then (if c = 7 then cv_tk (cv_ss S 3) else cv_tk (cv_ss S 7))
  else if S.1 = 6 then (if c = 9 then cv_er S else cv_ss S 7)
  else if S.1 = 1 then (if c = 7 then cv_ss S 3 else cv_155 c d S) else cv_155 c d S
def cv_16 (c d : Int32) (S : cv_R) : cv_R :=
  if S.1 = 3 then cv_iq c d S
  else if S.1 = 4 then (if c = 7 then (if 4 ≤ d then cv_tk (cv_ss S 7) else cv_tk (cv_ss S 3)) else cv_70 c d S) else cv_70 c d S
/-- step -/
def cv_st (c d : Int32) (S : cv_R) : cv_R := if S.1 = 0 then cv_16 c d (cv_ss (cv_sr S) 1) else cv_16 c d S
/-- the places that take, startField and startRecord store to lie in their arrays (asked for when filling) -/
def cv_oT (S : cv_R) : Bool := decide ((if S.2.2.2.1 + 1 ≤ 6 then S.2.2.2.2.2.2 else 0) = 0) || (cv_inb (((((((S.2.1 * 5) + S.2.2.1) - 1)) * 6) + (S.2.2.2.1 + 1)) - 1) 180 && cv_inb (((S.2.1 * 5) + S.2.2.1) - 1) 30)
def cv_oF (S : cv_R) : Bool := decide ((if S.2.2.1 + 1 ≤ 5 then S.2.2.2.2.2.2 else 0) = 0) || (cv_inb S.2.1 6 && cv_inb (((S.2.1 * 5) + (S.2.2.1 + 1)) - 1) 30)
def cv_oA (S : cv_R) : Bool := cv_oT S && cv_oF S
def cv_oS (S : cv_R) : Bool := if S.1 = 0 then cv_oF (cv_s0 S) && cv_oA (cv_sr S) else cv_oA S
theorem cv_oA1 {fi : Int32} {S : cv_R} (h : fi = 0 ∨ cv_oA S = true) : fi = 0 ∨ cv_oT S = true := h.imp id (fun z => ((Bool.and_eq_true _ _).mp z).1)
theorem cv_oA2 {fi : Int32} {S : cv_R} (h : fi = 0 ∨ cv_oA S = true) : fi = 0 ∨ cv_oF S = true := h.imp id (fun z => ((Bool.and_eq_true _ _).mp z).2)
section
variable {post : St2 → Prop} {cn dr rw pt kp fi so : Int32} {a1 a2 a3 a4 a5 : Nat → Int32}
theorem cv_t24 {st gr gf gs ff rg ho c : Int32} (hok : fi = 0 ∨ (ho = 0 ∨ (vp_in ((((((gr * 5) + gf) - 1) * 6) + gs) - 1) 180 ∧ vp_in (((gr * 5) + gf) - 1) 30)))
    (h : ∀ b2 b3, post (cn, dr, rw, pt, kp, st, gr, gf, gs, ff, rg, ho, fi, so, a1, b2, b3, a4, a5)) : wX_take_24 post c cn dr rw pt kp st gr gf gs ff rg ho fi so a1 a2 a3 a4 a5 :=
  br_c (fun _ => h _ _) (fun h1 => br_c (fun _ => h _ _) (fun h2 => nm_e ⟨((hok.resolve_left h1).resolve_left h2).1, nm_e ⟨((hok.resolve_left h1).resolve_left h2).2, nm_e (h _ _)⟩⟩))
theorem cv_take (S : cv_R) (c : Int32) (hok : fi = 0 ∨ cv_oT S = true) (h : ∀ b1 b2 b3, post (cv_u cn dr rw pt kp (cv_tk S) fi so b1 b2 b3 a4 a5)) : wpX_take post (cv_u cn dr rw pt kp S fi so a1 a2 a3 a4 a5) c := by
  obtain ⟨st, gr, gf, gs, ff, rg, ho⟩ := S
  have hk := hok.imp id (fun z => cv_o2 z)
  have h' : ∀ b1 b2 b3, post (cn, dr, rw, pt, kp, st, gr, gf, gs + 1, ff, rg, (if gs + 1 ≤ 6 then ho else 0), fi, so, b1, b2, b3, a4, a5) := h
  dsimp only at hk
  refine nm_e (br_c (fun hc => ?_) (fun hc => ?_))
  · rw [if_pos hc] at h' hk
    exact cv_t24 hk (fun b2 b3 => h' _ b2 b3)
  · rw [if_neg hc] at h'
    exact cv_t24 (Or.inr (Or.inl rfl)) (fun b2 b3 => h' _ b2 b3)
theorem cv_s28 {st gr gf gs ff rg ho : Int32} (hok : fi = 0 ∨ (ho = 0 ∨ (vp_in gr 6 ∧ vp_in (((gr * 5) + gf) - 1) 30)))
    (h : ∀ b1 b2, post (cn, dr, rw, pt, kp, st, gr, gf, gs, ff, rg, ho, fi, so, b1, b2, a3, a4, a5)) : wX_startField_28 post cn dr rw pt kp st gr gf gs ff rg ho fi so a1 a2 a3 a4 a5 :=
  br_c (fun _ => h _ _) (fun h1 => br_c (fun _ => h _ _) (fun h2 => ⟨((hok.resolve_left h1).resolve_left h2).1, nm_e ⟨((hok.resolve_left h1).resolve_left h2).2, nm_e (h _ _)⟩⟩))
theorem cv_startField (S : cv_R) (hok : fi = 0 ∨ cv_oF S = true) (h : ∀ b1 b2 b3, post (cv_u cn dr rw pt kp (cv_sf S) fi so b1 b2 b3 a4 a5)) : wpX_startField post (cv_u cn dr rw pt kp S fi so a1 a2 a3 a4 a5) := by
  obtain ⟨st, gr, gf, gs, ff, rg, ho⟩ := S
  have hk := hok.imp id (fun z => cv_o2 z)
  have h' : ∀ b1 b2 b3, post (cn, dr, rw, pt, kp, st, gr, gf + 1, 0, ff, rg, (if gf + 1 ≤ 5 then ho else 0), fi, so, b1, b2, b3, a4, a5) := h
  dsimp only at hk
  refine nm_e (br_c (fun hc => ?_) (fun hc => ?_))
  · rw [if_pos hc] at h' hk
    exact cv_s28 hk (fun b1 b2 => h' b1 b2 _)
  · rw [if_neg hc] at h'
    exact cv_s28 (Or.inr (Or.inl rfl)) (fun b1 b2 => h' b1 b2 _)
theorem cv_startRecord (S : cv_R) (hok : fi = 0 ∨ cv_oF (cv_s0 S) = true) (h : ∀ b1 b2 b3, post (cv_u cn dr rw pt kp (cv_sr S) fi so b1 b2 b3 a4 a5)) : wpX_startRecord post (cv_u cn dr rw pt kp S fi so a1 a2 a3 a4 a5) := by
  obtain ⟨st, gr, gf, gs, ff, rg, ho⟩ := S
  have e : cv_s0 (st, gr, gf, gs, ff, rg, ho) = (st, gr, 0, gs, ff, rg, if gr < 6 then ho else 0) := rfl
  unfold cv_sr at h
  rw [e] at hok h
  refine br_c (fun hc => ?_) (fun hc => ?_)
  · rw [if_pos hc] at hok h
    exact cv_startField (st, gr, 0, gs, ff, rg, ho) hok (fun b1 b2 b3 => h b1 b2 b3)
  · rw [if_neg hc] at hok h
    exact cv_startField (st, gr, 0, gs, ff, rg, 0) hok (fun b1 b2 b3 => h b1 b2 b3)
theorem cv_endRecord (S : cv_R) (h : post (cv_u cn dr rw pt kp (cv_er S) fi so a1 a2 a3 a4 a5)) : wpX_endRecord post (cv_u cn dr rw pt kp S fi so a1 a2 a3 a4 a5) := by
  obtain ⟨st, gr, gf, gs, ff, rg, ho⟩ := S
  have e : cv_er (st, gr, gf, gs, ff, rg, ho) = (0, gr + 1, gf, gs, (if gr = 0 then gf else ff), (if gf = (if gr = 0 then gf else ff) then rg else 0), ho) := rfl
  rw [e] at h
  refine br_c (fun hc => ?_) (fun hc => ?_)
  · rw [if_pos hc] at h
    refine br_c (fun hd => ?_) (fun hd => ?_)
    · rw [if_pos hd] at h
      exact nm_e h
    · rw [if_neg hd] at h
      exact nm_e h
  · rw [if_neg hc] at h
    refine br_c (fun hd => ?_) (fun hd => ?_)
    · rw [if_pos hd] at h
      exact nm_e h
    · rw [if_neg hd] at h
      exact nm_e h
theorem cv_w40 (S : cv_R) (c d : Int32) (h : ∀ b1 b2 b3, post (cv_u cn dr rw pt kp (cv_a4 c d S) fi so b1 b2 b3 a4 a5)) : wX_afterField_40 post c d cn dr rw pt kp S.1 S.2.1 S.2.2.1 S.2.2.2.1 S.2.2.2.2.1 S.2.2.2.2.2.1 S.2.2.2.2.2.2 fi so a1 a2 a3 a4 a5 := by
  unfold cv_a4 at h
  refine br_c (fun hc => ?_) (fun hc => ?_)
  · rw [if_pos hc] at h
    refine br_c (fun hd => ?_) (fun hd => ?_)
    · rw [if_pos hd] at h
      exact h _ _ _
    · rw [if_neg hd] at h
      exact h _ _ _
  · rw [if_neg hc] at h
    exact h _ _ _
theorem cv_afterField (S : cv_R) (c d : Int32) (hok : fi = 0 ∨ cv_oA S = true) (h : ∀ b1 b2 b3, post (cv_u cn dr rw pt kp (cv_af c d S) fi so b1 b2 b3 a4 a5)) : wpX_afterField post (cv_u cn dr rw pt kp S fi so a1 a2 a3 a4 a5) c d := by
  unfold cv_af at h
  refine br_c (fun hc => ?_) (fun hc => ?_)
  · rw [if_pos hc] at h
    exact cv_startField S (cv_oA2 hok) (fun b1 b2 b3 => h b1 b2 b3)
  · rw [if_neg hc] at h
    refine br_c (fun h9 => ?_) (fun h9 => ?_)
    · rw [if_pos h9] at h
      refine br_c (fun hd => ?_) (fun hd => ?_)
      · rw [if_pos hd] at h
        exact cv_w40 S c d h
      · rw [if_neg hd] at h
        exact cv_endRecord S (h _ _ _)
    · rw [if_neg h9] at h
      exact cv_w40 S c d h
theorem cv_inQuotes (S : cv_R) (c d : Int32) (hok : fi = 0 ∨ cv_oA S = true) (h : ∀ b1 b2 b3, post (cv_u cn dr rw pt kp (cv_iq c d S) fi so b1 b2 b3 a4 a5)) : wpX_inQuotes post (cv_u cn dr rw pt kp S fi so a1 a2 a3 a4 a5) c d := by
  unfold cv_iq at h
  refine br_c (fun hc => ?_) (fun hc => ?_)
  · rw [if_pos hc] at h
    exact h _ _ _
  · rw [if_neg hc] at h
    refine br_c (fun h9 => ?_) (fun h9 => ?_)
    · rw [if_pos h9] at h
      refine br_c (fun hd => ?_) (fun hd => ?_)
      · rw [if_pos hd] at h
        exact h _ _ _
      · rw [if_neg hd] at h
        exact h _ _ _
    · rw [if_neg h9] at h
      exact cv_take S c (cv_oA1 hok) (fun b1 b2 b3 => h b1 b2 b3)
theorem cv_w191 (S : cv_R) (c d : Int32) (hok : fi = 0 ∨ cv_oA S = true) (h : ∀ b1 b2 b3, post (cv_u cn dr rw pt kp (cv_af c d S) fi so b1 b2 b3 a4 a5)) : wX_step_191 post c d cn dr rw pt kp S.1 S.2.1 S.2.2.1 S.2.2.2.1 S.2.2.2.2.1 S.2.2.2.2.2.1 S.2.2.2.2.2.2 fi so a1 a2 a3 a4 a5 :=
  cv_afterField S c d hok (fun b1 b2 b3 => h b1 b2 b3)
theorem cv_w155 (S : cv_R) (c d : Int32) (hok : fi = 0 ∨ cv_oA S = true) (h : ∀ b1 b2 b3, post (cv_u cn dr rw pt kp (cv_155 c d S) fi so b1 b2 b3 a4 a5)) : wX_step_155 post c d cn dr rw pt kp S.1 S.2.1 S.2.2.1 S.2.2.2.1 S.2.2.2.2.1 S.2.2.2.2.2.1 S.2.2.2.2.2.2 fi so a1 a2 a3 a4 a5 := by
  unfold cv_155 at h
  refine br_c (fun hc => ?_) (fun hc => ?_)
  · rw [if_pos hc] at h
    exact cv_w191 S c d hok h
  · rw [if_neg hc] at h
    refine br_c (fun h9 => ?_) (fun h9 => ?_)
    · rw [if_pos h9] at h
      exact cv_w191 S c d hok h
    · rw [if_neg h9] at h
      refine br_c (fun hd => ?_) (fun hd => ?_)
      · rw [if_pos hd] at h
        exact cv_w191 S c d hok h
      · rw [if_neg hd] at h
        exact cv_take (cv_ss S 2) c (cv_oA1 hok) (fun b1 b2 b3 => h b1 b2 b3)
theorem cv_w91 (S : cv_R) (c z : Int32) (hok : fi = 0 ∨ cv_oA S = true) (h : ∀ b1 b2 b3, post (cv_u cn dr rw pt kp (cv_tk (cv_ss S z)) fi so b1 b2 b3 a4 a5)) : wX_step_91 post c z cn dr rw pt kp S.1 S.2.1 S.2.2.1 S.2.2.2.1 S.2.2.2.2.1 S.2.2.2.2.2.1 S.2.2.2.2.2.2 fi so a1 a2 a3 a4 a5 :=
  cv_take (cv_ss S z) c (cv_oA1 hok) (fun b1 b2 b3 => h b1 b2 b3)
theorem cv_w59 (S : cv_R) (c z : Int32) (hok : fi = 0 ∨ cv_oA S = true) (h : ∀ b1 b2 b3, post (cv_u cn dr rw pt kp (cv_tk (cv_ss S z)) fi so b1 b2 b3 a4 a5)) : wX_step_59 post c z cn dr rw pt kp S.1 S.2.1 S.2.2.1 S.2.2.2.1 S.2.2.2.2.1 S.2.2.2.2.2.1 S.2.2.2.2.2.2 fi so a1 a2 a3 a4 a5 :=
  cv_take (cv_ss S z) c (cv_oA1 hok) (fun b1 b2 b3 => h b1 b2 b3)
theorem cv_w70 (S : cv_R) (c d : Int32) (hok : fi = 0 ∨ cv_oA S = true) (h : ∀ b1 b2 b3, post (cv_u cn dr rw pt kp (cv_70 c d S) fi so b1 b2 b3 a4 a5)) : wX_step_70 post c d cn dr rw pt kp S.1 S.2.1 S.2.2.1 S.2.2.2.1 S.2.2.2.2.1 S.2.2.2.2.2.1 S.2.2.2.2.2.2 fi so a1 a2 a3 a4 a5 := by
  unfold cv_70 at h
  refine br_c (fun h5 => ?_) (fun h5 => ?_)
  · rw [if_pos h5] at h
    refine br_c (fun hc => ?_) (fun hc => ?_)
    · rw [if_pos hc] at h
      exact cv_w91 S c 3 hok h
    · rw [if_neg hc] at h
      exact cv_w91 S c 7 hok h
  · rw [if_neg h5] at h
    refine br_c (fun h6 => ?_) (fun h6 => ?_)
    · rw [if_pos h6] at h
      refine br_c (fun hc => ?_) (fun hc => ?_)
      · rw [if_pos hc] at h
        exact cv_endRecord S (h _ _ _)
      · rw [if_neg hc] at h
        exact h _ _ _
    · rw [if_neg h6] at h
      refine br_c (fun h1 => ?_) (fun h1 => ?_)
      · rw [if_pos h1] at h
        refine br_c (fun hc => ?_) (fun hc => ?_)
        · rw [if_pos hc] at h
          exact h _ _ _
        · rw [if_neg hc] at h
          exact cv_w155 S c d hok h
      · rw [if_neg h1] at h
        exact cv_w155 S c d hok h
theorem cv_w16 (S : cv_R) (c d : Int32) (hok : fi = 0 ∨ cv_oA S = true) (h : ∀ b1 b2 b3, post (cv_u cn dr rw pt kp (cv_16 c d S) fi so b1 b2 b3 a4 a5)) : wX_step_16 post c d cn dr rw pt kp S.1 S.2.1 S.2.2.1 S.2.2.2.1 S.2.2.2.2.1 S.2.2.2.2.2.1 S.2.2.2.2.2.2 fi so a1 a2 a3 a4 a5 := by
  unfold cv_16 at h
  refine br_c (fun h3 => ?_) (fun h3 => ?_)
  · rw [if_pos h3] at h
    exact cv_inQuotes S c d hok (fun b1 b2 b3 => h b1 b2 b3)
  · rw [if_neg h3] at h
    refine br_c (fun h4 => ?_) (fun h4 => ?_)
    · rw [if_pos h4] at h
      refine br_c (fun hc => ?_) (fun hc => ?_)
      · rw [if_pos hc] at h
        refine br_c (fun hd => ?_) (fun hd => ?_)
        · rw [if_pos hd] at h
          exact cv_w59 S c 7 hok h
        · rw [if_neg hd] at h
          exact cv_w59 S c 3 hok h
      · rw [if_neg hc] at h
        exact cv_w70 S c d hok h
    · rw [if_neg h4] at h
      exact cv_w70 S c d hok h
theorem cv_step (S : cv_R) (c d : Int32) (hok : fi = 0 ∨ cv_oS S = true) (h : ∀ b1 b2 b3, post (cv_u cn dr rw pt kp (cv_st c d S) fi so b1 b2 b3 a4 a5)) : wpX_step post (cv_u cn dr rw pt kp S fi so a1 a2 a3 a4 a5) c d := by
  unfold cv_st at h
  unfold cv_oS at hok
  refine br_c (fun h0 => ?_) (fun h0 => ?_)
  · rw [if_pos h0] at h hok
    exact cv_startRecord S (hok.imp id (fun z => ((Bool.and_eq_true _ _).mp z).1)) (fun b1 b2 b3 => cv_w16 (cv_ss (cv_sr S) 1) c d (hok.imp id (fun z => ((Bool.and_eq_true _ _).mp z).2)) (fun b1 b2 b3 => h b1 b2 b3))
  · rw [if_neg h0] at h hok
    exact cv_w16 S c d hok h
end
end
section
/-- readAll's loop: k characters to go from place i on -/
def cv_run (d : Int32) (t : Nat → Int32) : Nat → Nat → cv_R → cv_R
  | 0, _, S => S
  | k + 1, i, S => if S.1 = 7 then S else cv_run d t k (i + 1) (cv_st (t i) d S)
def cv_rok (d : Int32) (t : Nat → Int32) : Nat → Nat → cv_R → Bool
  | 0, _, _ => true
  | k + 1, i, S => if S.1 = 7 then true else cv_oS S && cv_rok d t k (i + 1) (cv_st (t i) d S)
def cv_fn (S : cv_R) : cv_R := if S.1 = 1 then cv_er S else if S.1 = 2 then cv_er S else if S.1 = 4 then cv_er S else S
def cv_S0 : cv_R := (0, 0, 0, 0, 0, 1, 1)
/-- the reader's numbers behind readAll -/
def cv_ra (d : Int32) (t : Nat → Int32) (k : Nat) : cv_R := cv_fn (cv_run d t k 0 cv_S0)
/-- readAll's answer -/
def cv_rr (S : cv_R) : Int32 := if S.1 = 0 then 1 else 0
section
variable {post : Int32 → St2 → Prop} {cn dr rw pt kp fi so : Int32} {a1 a2 a3 a4 a5 : Nat → Int32}
theorem cv_w125 (S : cv_R) (h : post (cv_rr S) (cv_u cn dr rw pt kp S fi so a1 a2 a3 a4 a5)) : wX_readAll_125 post cn dr rw pt kp S.1 S.2.1 S.2.2.1 S.2.2.2.1 S.2.2.2.2.1 S.2.2.2.2.2.1 S.2.2.2.2.2.2 fi so a1 a2 a3 a4 a5 := by
  unfold cv_rr at h
  refine br_c (fun hc => ?_) (fun hc => ?_)
  · rw [if_pos hc] at h
    exact h
  · rw [if_neg hc] at h
    exact h
theorem cv_w121 (S : cv_R) (h : post (cv_rr (cv_er S)) (cv_u cn dr rw pt kp (cv_er S) fi so a1 a2 a3 a4 a5)) : wX_readAll_121 post cn dr rw pt kp S.1 S.2.1 S.2.2.1 S.2.2.2.1 S.2.2.2.2.1 S.2.2.2.2.2.1 S.2.2.2.2.2.2 fi so a1 a2 a3 a4 a5 :=
  cv_endRecord S (cv_w125 (cv_er S) h)
theorem cv_w97 (S : cv_R) (h : post (cv_rr (cv_fn S)) (cv_u cn dr rw pt kp (cv_fn S) fi so a1 a2 a3 a4 a5)) : wX_readAll_97 post cn dr rw pt kp S.1 S.2.1 S.2.2.1 S.2.2.2.1 S.2.2.2.2.1 S.2.2.2.2.2.1 S.2.2.2.2.2.2 fi so a1 a2 a3 a4 a5 := by
  unfold cv_fn at h
  refine br_c (fun h1 => ?_) (fun h1 => ?_)
  · rw [if_pos h1] at h
    exact cv_w121 S h
  · rw [if_neg h1] at h
    refine br_c (fun h2 => ?_) (fun h2 => ?_)
    · rw [if_pos h2] at h
      exact cv_w121 S h
    · rw [if_neg h2] at h
      refine br_c (fun h3 => ?_) (fun h3 => ?_)
      · rw [if_pos h3] at h
        exact cv_w121 S h
      · rw [if_neg h3] at h
        exact cv_w125 S h
theorem cv_w47 (d : Int32) (m : Nat) (hm : m ≤ 96) : ∀ (k i : Nat) (S : cv_R) (so : Int32) (a1 a2 a3 : Nat → Int32), i + k = m → (fi = 0 ∨ cv_rok d a5 k i S = true) →
    (∀ so b1 b2 b3, post (cv_rr (cv_fn (cv_run d a5 k i S))) (cv_u cn dr (nI m) pt kp (cv_fn (cv_run d a5 k i S)) fi so b1 b2 b3 a4 a5)) →
    wX_readAll_47 post d (k + 1) (nI i) cn dr (nI m) pt kp S.1 S.2.1 S.2.2.1 S.2.2.2.1 S.2.2.2.2.1 S.2.2.2.2.2.1 S.2.2.2.2.2.2 fi so a1 a2 a3 a4 a5 := by
  intro k
  induction k with
  | zero =>
    intro i S so a1 a2 a3 hi hok h
    exact pk_le m i (fun _ => cv_w97 S (h _ _ _ _)) (fun z => absurd z (by omega))
  | succ k ih =>
    intro i S so a1 a2 a3 hi hok h
    have e : a5 (nI i).toNatClampNeg = a5 i := by rw [nI_clamp (by omega)]
    unfold cv_run at h
    unfold cv_rok at hok
    refine pk_le m i (fun z => absurd z (by omega)) (fun _ => br_c (fun h7 => ?_) (fun h7 => ⟨pk_in i 96 (by omega), ?_⟩))
    · rw [if_pos h7] at h
      exact cv_w97 S (h _ _ _ _)
    · rw [if_neg h7] at h hok
      refine ek_v (P := fun x => wpX_step _ _ x d) e ?_
      refine cv_step S (a5 i) d (hok.imp id (fun z => ((Bool.and_eq_true _ _).mp z).1)) (fun b1 b2 b3 => ?_)
      have hk := hok.imp id (fun z => ((Bool.and_eq_true _ _).mp z).2)
      exact br_c (fun _ => nm_r (nI_1 i) (ih (i + 1) (cv_st (a5 i) d S) _ b1 b2 b3 (by omega) hk h)) (fun _ => nm_e (nm_r (nI_1 i) (ih (i + 1) (cv_st (a5 i) d S) _ b1 b2 b3 (by omega) hk h)))
theorem cv_nb {p : Int32} (h : p = 0 ∨ p = 1) : narrow .boolean (.int p) = .int p ∧ fits .boolean (.int p) = true := by
  rcases h with h | h
  · rw [h]
    exact ⟨by rfl, by rfl⟩
  · rw [h]
    exact ⟨by rfl, by rfl⟩
theorem cv_readAll (S : cv_R) (d p : Int32) (m : Nat) (hm : m ≤ 96) (hp : p = 0 ∨ (p = 1 ∧ cv_rok d a5 m 0 cv_S0 = true))
    (h : ∀ so b1 b2 b3, post (cv_rr (cv_ra d a5 m)) (cv_u cn dr (nI m) pt kp (cv_ra d a5 m) p so b1 b2 b3 a4 a5)) :
    wpX_readAll post (cv_u cn dr (nI m) pt kp S fi so a1 a2 a3 a4 a5) d p := by
  have hb := cv_nb (hp.imp id (fun z => z.1))
  exact ⟨hb.1, hb.2, m + 1, cv_w47 d m hm m 0 cv_S0 0 a1 a2 a3 (by omega) (hp.imp id (fun z => z.2)) h⟩
/-- the dialect j reads the text, evenly, with a field -/
def cv_gd (t : Nat → Int32) (m j : Nat) : Prop := (cv_ra (nI j) t m).1 = 0 ∧ ¬ (cv_ra (nI j) t m).2.2.2.2.2.1 = 0 ∧ ¬ (cv_ra (nI j) t m).2.2.2.2.1 ≤ 0
def cv_gi (t : Nat → Int32) (m j : Nat) (b x : Int32) : Prop := (b = -4 ∧ x = 0 ∧ ∀ i, i < j → ¬ cv_gd t m i) ∨ ((∃ i, i < 8 ∧ b = nI i) ∧ ∃ i, i < 8 ∧ cv_gd t m i)
theorem cv_gk {t : Nat → Int32} {m j : Nat} {b x : Int32} (h : cv_gi t m j b x) (hn : x = 0 → ¬ cv_gd t m j) : cv_gi t m (j + 1) b x :=
  h.imp (fun z => ⟨z.1, z.2.1, lt_s z.2.2 (hn z.2.1)⟩) id
theorem cv_w7 (m : Nat) (hm : m ≤ 96) (h : ∀ g S fi so b1 b2 b3, ((g = -4 ∧ ∀ j, j < 8 → ¬ cv_gd a5 m j) ∨ ((∃ i, i < 8 ∧ g = nI i) ∧ ∃ i, i < 8 ∧ cv_gd a5 m i)) → post g (cv_u cn dr (nI m) pt kp S fi so b1 b2 b3 a4 a5)) :
    ∀ (k j : Nat) (b x : Int32) (S : cv_R) (fi so : Int32) (a1 a2 a3 : Nat → Int32), j + k = 8 → cv_gi a5 m j b x →
    wX_guess_7 post (k + 1) b x (nI j) cn dr (nI m) pt kp S.1 S.2.1 S.2.2.1 S.2.2.2.1 S.2.2.2.2.1 S.2.2.2.2.2.1 S.2.2.2.2.2.2 fi so a1 a2 a3 a4 a5 := by
  intro k
  induction k with
  | zero =>
    intro j b x S fi so a1 a2 a3 hj hi
    have e : j = 8 := by omega
    rw [e] at hi
    exact pk_le 8 j (fun _ => h b S fi so a1 a2 a3 (hi.imp (fun z => ⟨z.1, z.2.2⟩) id)) (fun z => absurd z (by omega))
  | succ k ih =>
    intro j b x S fi so a1 a2 a3 hj hi
    refine pk_le 8 j (fun z => absurd z (by omega)) (fun _ => ?_)
    refine cv_readAll S (nI j) 0 m hm (Or.inl rfl) (fun so b1 b2 b3 => ?_)
    have hn0 : cv_rr (cv_ra (nI j) a5 m) = 0 → ¬ (cv_ra (nI j) a5 m).1 = 0 := fun hr z => by
      unfold cv_rr at hr
      rw [if_pos z] at hr
      exact absurd hr (by decide)
    have hn1 : ¬ cv_rr (cv_ra (nI j) a5 m) = 0 → (cv_ra (nI j) a5 m).1 = 0 := fun hr => Decidable.byContradiction (fun z => hr (if_neg z))
    refine br_c (fun hr => nm_r (nI_1 j) (ih (j + 1) b x _ _ _ b1 b2 b3 (by omega) (cv_gk hi (fun _ g => hn0 hr g.1)))) (fun hr => ?_)
    refine br_c (fun h1 => nm_r (nI_1 j) (ih (j + 1) b x _ _ _ b1 b2 b3 (by omega) (cv_gk hi (fun _ g => g.2.1 h1)))) (fun h1 => ?_)
    refine br_c (fun h2 => nm_r (nI_1 j) (ih (j + 1) b x _ _ _ b1 b2 b3 (by omega) (cv_gk hi (fun hx g => g.2.2 (hx ▸ h2))))) (fun h2 => ?_)
    exact nm_r (nI_1 j) (ih (j + 1) (nI j) _ _ _ _ b1 b2 b3 (by omega) (Or.inr ⟨⟨j, by omega, rfl⟩, hi.elim (fun z => ⟨j, by omega, hn1 hr, h1, z.2.1 ▸ h2⟩) (fun z => z.2)⟩))
theorem cv_guess (S : cv_R) (m : Nat) (hm : m ≤ 96) (h : ∀ g S fi so b1 b2 b3, ((g = -4 ∧ ∀ j, j < 8 → ¬ cv_gd a5 m j) ∨ ((∃ i, i < 8 ∧ g = nI i) ∧ ∃ i, i < 8 ∧ cv_gd a5 m i)) → post g (cv_u cn dr (nI m) pt kp S fi so b1 b2 b3 a4 a5)) :
    wpX_guess post (cv_u cn dr (nI m) pt kp S fi so a1 a2 a3 a4 a5) :=
  ⟨9, cv_w7 m hm h 8 0 (-4) 0 S fi so a1 a2 a3 (by omega) (Or.inl ⟨rfl, rfl, lt_0⟩)⟩
/-- a dialect: 0 to 7 -/
def cv_dB (d : Int32) : Prop := d < 0 ∨ ¬ d ≤ 7
theorem cv_readBad (S : cv_R) (d : Int32) (hd : cv_dB d) (h : post (-1) (cv_u cn dr rw pt kp S fi so a1 a2 a3 a4 a5)) : wpX_read post (cv_u cn dr rw pt kp S fi so a1 a2 a3 a4 a5) d :=
  br_c (fun _ => br_f (by decide) h) (fun h0 => br_c (fun h7 => absurd h7 (hd.resolve_left h0)) (fun _ => br_f (by decide) h))
theorem cv_read (S : cv_R) (d : Int32) (m : Nat) (hm : m ≤ 96) (hd : ¬ cv_dB d) (h1 : (cv_ra d a5 m).1 = 0) (h2 : ¬ (cv_ra d a5 m).2.2.2.2.2.2 = 0) (h3 : cv_rok d a5 m 0 cv_S0 = true)
    (h : ∀ S cn fi so b1 b2 b3, post (cv_ra d a5 m).2.1 (cv_u cn dr (nI m) pt kp S fi so b1 b2 b3 a4 a5)) : wpX_read post (cv_u cn dr (nI m) pt kp S fi so a1 a2 a3 a4 a5) d := by
  have e : cv_rr (cv_ra d a5 m) = 1 := if_pos h1
  refine br_f (fun z => hd (Or.inl z)) (br_t (Decidable.byContradiction (fun z => hd (Or.inr z))) (br_t rfl ?_))
  refine cv_readAll S d 0 m hm (Or.inl rfl) (fun so b1 b2 b3 => br_f (by rw [e]; decide) (br_f h2 ?_))
  exact cv_readAll (cv_ra d a5 m) d 1 m hm (Or.inr ⟨rfl, h3⟩) (fun so b1 b2 b3 => h _ _ _ _ _ _ _)
end
end
section
/-- the writer: how much it has put, and the text -/
abbrev cv_W : Type := Nat × (Nat → Int32)
abbrev cv_J : Type := Int32 → Int32 → Int32 → Int32 → Int32 → Int32 → Int32 → Int32 → Int32 → Int32 → Int32 → Int32 → Int32 → Int32 → Int32 → (Nat → Int32) → (Nat → Int32) → (Nat → Int32) → (Nat → Int32) → (Nat → Int32) → Prop
/-- emit -/
def cv_em (kp : Int32) (w : cv_W) (c : Int32) : cv_W := (w.1 + 1, if kp = 0 then w.2 else upd w.2 w.1 c)
/-- needsQuotes: k characters to go from place i on -/
def cv_nq (d : Int32) (lt : Nat → Int32) : Nat → Nat → Int32
  | 0, _ => 0
  | k + 1, i => if 7 ≤ lt i then 1 else if lt i = 5 + (d &&& 1) then 1 else cv_nq d lt k (i + 1)
def cv_q (d : Int32) (lt : Nat → Int32) (n : Nat) : Int32 := if cv_nq d lt n 0 = 0 then (if nI n = 0 then 1 else 0) else 1
/-- one character of a field -/
def cv_wc (kp d : Int32) (c : Int32) (w : cv_W) : cv_W := cv_em kp (if c = 7 then (if d < 4 then cv_em kp w 7 else cv_em kp w 10) else w) c
/-- writeField's loop: k characters to go from place i on -/
def cv_wl (kp d : Int32) (lt : Nat → Int32) : Nat → Nat → cv_W → cv_W
  | 0, _, w => w
  | k + 1, i, w => cv_wl kp d lt k (i + 1) (cv_wc kp d (lt i) w)
def cv_we (kp q : Int32) (w : cv_W) : cv_W := if q = 0 then w else cv_em kp w 7
/-- writeField -/
def cv_wf (kp d : Int32) (lt : Nat → Int32) (n : Nat) (w : cv_W) : cv_W := cv_we kp (cv_q d lt n) (cv_wl kp d lt n 0 (cv_we kp (cv_q d lt n) w))
def cv_wr (kp d : Int32) (w : cv_W) : cv_W := if d &&& 2 = 0 then cv_em kp w 8 else w
/-- writeAll over one record of one field -/
def cv_wa (kp d : Int32) (lt : Nat → Int32) (n : Nat) (t : Nat → Int32) : cv_W := cv_em kp (cv_wr kp d (cv_wf kp d lt n (0, t))) 9
theorem cv_wcB (kp d c : Int32) (w : cv_W) : (cv_wc kp d c w).1 ≤ w.1 + 2 := by
  unfold cv_wc
  by_cases h : c = 7
  · rw [if_pos h]
    by_cases g : d < 4
    · rw [if_pos g]
      exact Nat.le_refl _
    · rw [if_neg g]
      exact Nat.le_refl _
  · rw [if_neg h]
    exact Nat.le_succ _
theorem cv_wlB (kp d : Int32) (lt : Nat → Int32) : ∀ (k i : Nat) (w : cv_W), (cv_wl kp d lt k i w).1 ≤ w.1 + 2 * k := by
  intro k
  induction k with
  | zero => exact fun i w => Nat.le_refl _
  | succ k ih =>
    intro i w
    have h1 := ih (i + 1) (cv_wc kp d (lt i) w)
    have h2 := cv_wcB kp d (lt i) w
    show (cv_wl kp d lt k (i + 1) (cv_wc kp d (lt i) w)).1 ≤ w.1 + 2 * (k + 1)
    omega
theorem cv_weB (kp q : Int32) (w : cv_W) : (cv_we kp q w).1 ≤ w.1 + 1 := by
  unfold cv_we
  by_cases h : q = 0
  · rw [if_pos h]
    exact Nat.le_succ _
  · rw [if_neg h]
    exact Nat.le_refl _
theorem cv_wrB (kp d : Int32) (w : cv_W) : (cv_wr kp d w).1 ≤ w.1 + 1 := by
  unfold cv_wr
  by_cases h : d &&& 2 = 0
  · rw [if_pos h]
    exact Nat.le_refl _
  · rw [if_neg h]
    exact Nat.le_succ _
theorem cv_wfB (kp d : Int32) (lt : Nat → Int32) (n : Nat) (w : cv_W) : (cv_wf kp d lt n w).1 ≤ w.1 + 2 * n + 2 := by
  have h1 := cv_weB kp (cv_q d lt n) w
  have h2 := cv_wlB kp d lt n 0 (cv_we kp (cv_q d lt n) w)
  have h3 := cv_weB kp (cv_q d lt n) (cv_wl kp d lt n 0 (cv_we kp (cv_q d lt n) w))
  unfold cv_wf
  omega
theorem cv_waB (kp d : Int32) (lt : Nat → Int32) (n : Nat) (t : Nat → Int32) : (cv_wa kp d lt n t).1 ≤ 2 * n + 4 := by
  have h1 := cv_wfB kp d lt n (0, t)
  have h2 := cv_wrB kp d (cv_wf kp d lt n (0, t))
  have h3 : (cv_wa kp d lt n t).1 = (cv_wr kp d (cv_wf kp d lt n (0, t))).1 + 1 := rfl
  dsimp only at h1
  omega
theorem cv_06 (i : Nat) : (0 : Int32) * 6 + nI i = nI i := by
  rw [Int32.zero_mul, Int32.zero_add]
section
variable {cn dr rw pt kp fi so : Int32} {a1 a2 a3 a4 a5 : Nat → Int32}
theorem cv_emit {post : St2 → Prop} (S : cv_R) (w : cv_W) (c : Int32) (hp : w.1 < 96) (h : post (cv_u cn dr rw (nI (cv_em kp w c).1) kp S fi so a1 a2 a3 a4 (cv_em kp w c).2)) :
    wpX_emit post (cv_u cn dr rw (nI w.1) kp S fi so a1 a2 a3 a4 w.2) c := by
  have h' : post (cv_u cn dr rw (nI (w.1 + 1)) kp S fi so a1 a2 a3 a4 (if kp = 0 then w.2 else upd w.2 w.1 c)) := h
  refine br_c (fun hk => nm_r (nI_1 w.1) ?_) (fun hk => ⟨pk_in w.1 96 hp, nm_r (show upd w.2 (nI w.1).toNatClampNeg c = upd w.2 w.1 c by rw [nI_clamp (by omega)]) (nm_r (nI_1 w.1) ?_)⟩)
  · rw [if_pos hk] at h'
    exact h'
  · rw [if_neg hk] at h'
    exact h'
theorem cv_w2 {post : Int32 → Prop} (S : cv_R) (d : Int32) (n : Nat) (hn : n ≤ 6) (h2 : a2 0 = nI n) : ∀ k i : Nat, i + k = n → post (cv_nq d a3 k i) →
    wX_needsQuotes_2 post 0 d cn dr rw pt kp S.1 S.2.1 S.2.2.1 S.2.2.2.1 S.2.2.2.2.1 S.2.2.2.2.2.1 S.2.2.2.2.2.2 fi so a1 a2 a3 a4 a5 (k + 1) (nI i) := by
  intro k
  induction k with
  | zero =>
    intro i hi h
    exact ⟨pk_in 0 30 (by omega), pk_le n i (fun _ => h) (fun z => absurd z (by omega)) (hx := h2)⟩
  | succ k ih =>
    intro i hi h
    have h' : post (if 7 ≤ a3 i then 1 else if a3 i = 5 + (d &&& 1) then 1 else cv_nq d a3 k (i + 1)) := h
    refine ⟨pk_in 0 30 (by omega), pk_le n i (fun z => absurd z (by omega)) (fun _ => ⟨pk_in i 180 (by omega) (hx := cv_06 i), nm_r (show a3 ((0 : Int32) * 6 + nI i).toNatClampNeg = a3 i by rw [cv_06, nI_clamp (by omega)]) ?_⟩) (hx := h2)⟩
    refine br_c (fun h7 => ?_) (fun h7 => ?_)
    · rw [if_pos h7] at h'
      exact h'
    · rw [if_neg h7] at h'
      refine br_c (fun h5 => ?_) (fun h5 => ?_)
      · rw [if_pos h5] at h'
        exact h'
      · rw [if_neg h5] at h'
        exact nm_r (nI_1 i) (ih (i + 1) (by omega) h')
theorem cv_w108 {post : St2 → Prop} {J : cv_J} (S : cv_R) (d q : Int32) (i : Nat) (c : Int32) (w : cv_W) (hp : w.1 < 96)
    (h : J (nI (i + 1)) cn dr rw (nI (cv_em kp w c).1) kp S.1 S.2.1 S.2.2.1 S.2.2.2.1 S.2.2.2.2.1 S.2.2.2.2.2.1 S.2.2.2.2.2.2 fi so a1 a2 a3 a4 (cv_em kp w c).2) :
    wX_writeField_108 post J d 0 q (nI i) c cn dr rw (nI w.1) kp S.1 S.2.1 S.2.2.1 S.2.2.2.1 S.2.2.2.2.1 S.2.2.2.2.2.1 S.2.2.2.2.2.2 fi so a1 a2 a3 a4 w.2 :=
  cv_emit S w c hp (nm_r (nI_1 i) h)
theorem cv_w105 {post : St2 → Prop} {J : cv_J} (S : cv_R) (d q : Int32) (i : Nat) (c z : Int32) (w : cv_W) (hp : w.1 + 1 < 96)
    (h : J (nI (i + 1)) cn dr rw (nI (cv_em kp (cv_em kp w z) c).1) kp S.1 S.2.1 S.2.2.1 S.2.2.2.1 S.2.2.2.2.1 S.2.2.2.2.2.1 S.2.2.2.2.2.2 fi so a1 a2 a3 a4 (cv_em kp (cv_em kp w z) c).2) :
    wX_writeField_105 post J d 0 q (nI i) c z cn dr rw (nI w.1) kp S.1 S.2.1 S.2.2.1 S.2.2.2.1 S.2.2.2.2.1 S.2.2.2.2.2.1 S.2.2.2.2.2.2 fi so a1 a2 a3 a4 w.2 :=
  cv_emit S w z (by omega) (cv_w108 S d q i c (cv_em kp w z) hp h)
theorem cv_w58 {post : St2 → Prop} (S : cv_R) (d q : Int32) (n : Nat) (hn : n ≤ 6) (h2 : a2 0 = nI n) : ∀ (k i : Nat) (w : cv_W), i + k = n → w.1 + 2 * k < 96 →
    post (cv_u cn dr rw (nI (cv_we kp q (cv_wl kp d a3 k i w)).1) kp S fi so a1 a2 a3 a4 (cv_we kp q (cv_wl kp d a3 k i w)).2) →
    wX_writeField_58 post d 0 q (k + 1) (nI i) cn dr rw (nI w.1) kp S.1 S.2.1 S.2.2.1 S.2.2.2.1 S.2.2.2.2.1 S.2.2.2.2.2.1 S.2.2.2.2.2.2 fi so a1 a2 a3 a4 w.2 := by
  intro k
  induction k with
  | zero =>
    intro i w hi hw h
    have h' : post (cv_u cn dr rw (nI (cv_we kp q w).1) kp S fi so a1 a2 a3 a4 (cv_we kp q w).2) := h
    unfold cv_we at h'
    refine ⟨pk_in 0 30 (by omega), pk_le n i (fun _ => br_c (fun hq => ?_) (fun hq => ?_)) (fun z => absurd z (by omega)) (hx := h2)⟩
    · rw [if_pos hq] at h'
      exact h'
    · rw [if_neg hq] at h'
      exact cv_emit S w 7 (by omega) h'
  | succ k ih =>
    intro i w hi hw h
    have h' := ih (i + 1) (cv_wc kp d (a3 i) w) (by omega) (by have := cv_wcB kp d (a3 i) w; omega) h
    unfold cv_wc at h'
    refine ⟨pk_in 0 30 (by omega), pk_le n i (fun z => absurd z (by omega)) (fun _ => ⟨pk_in i 180 (by omega) (hx := cv_06 i), nm_r (show a3 ((0 : Int32) * 6 + nI i).toNatClampNeg = a3 i by rw [cv_06, nI_clamp (by omega)]) ?_⟩) (hx := h2)⟩
    refine br_c (fun h7 => ?_) (fun h7 => ?_)
    · rw [if_pos h7] at h'
      refine br_c (fun h4 => ?_) (fun h4 => ?_)
      · rw [if_pos h4] at h'
        exact cv_w105 S d q i (a3 i) 7 w (by omega) h'
      · rw [if_neg h4] at h'
        exact cv_w105 S d q i (a3 i) 10 w (by omega) h'
    · rw [if_neg h7] at h'
      exact cv_w108 S d q i (a3 i) w (by omega) h'
theorem cv_w42 {post : St2 → Prop} (S : cv_R) (d q : Int32) (n : Nat) (hn : n ≤ 6) (h2 : a2 0 = nI n) (w : cv_W) (hw : w.1 + 2 * n + 2 < 96)
    (h : post (cv_u cn dr rw (nI (cv_we kp q (cv_wl kp d a3 n 0 (cv_we kp q w))).1) kp S fi so a1 a2 a3 a4 (cv_we kp q (cv_wl kp d a3 n 0 (cv_we kp q w))).2)) :
    wX_writeField_42 post d 0 q cn dr rw (nI w.1) kp S.1 S.2.1 S.2.2.1 S.2.2.2.1 S.2.2.2.2.1 S.2.2.2.2.2.1 S.2.2.2.2.2.2 fi so a1 a2 a3 a4 w.2 := by
  have h' : ∃ n, wX_writeField_58 post d 0 q n (nI 0) cn dr rw (nI (cv_we kp q w).1) kp S.1 S.2.1 S.2.2.1 S.2.2.2.1 S.2.2.2.2.1 S.2.2.2.2.2.1 S.2.2.2.2.2.2 fi so a1 a2 a3 a4 (cv_we kp q w).2 :=
    ⟨n + 1, cv_w58 S d q n hn h2 n 0 (cv_we kp q w) (by omega) (by have := cv_weB kp q w; omega) h⟩
  unfold cv_we at h'
  refine br_c (fun hq => ?_) (fun hq => ?_)
  · rw [if_pos hq] at h'
    exact h'
  · rw [if_neg hq] at h'
    exact cv_emit S w 7 (by omega) h'
theorem cv_writeField {post : St2 → Prop} (S : cv_R) (d : Int32) (n : Nat) (hn : n ≤ 6) (h1 : a1 0 = 1) (h2 : a2 0 = nI n) (w : cv_W) (hw : w.1 + 2 * n + 2 < 96)
    (h : post (cv_u cn dr rw (nI (cv_wf kp d a3 n w).1) kp S fi so a1 a2 a3 a4 (cv_wf kp d a3 n w).2)) :
    wpX_writeField post (cv_u cn dr rw (nI w.1) kp S fi so a1 a2 a3 a4 w.2) 0 0 d := by
  have h' : wX_writeField_42 post d 0 (cv_q d a3 n) cn dr rw (nI w.1) kp S.1 S.2.1 S.2.2.1 S.2.2.2.1 S.2.2.2.2.1 S.2.2.2.2.2.1 S.2.2.2.2.2.2 fi so a1 a2 a3 a4 w.2 := cv_w42 S d (cv_q d a3 n) n hn h2 w hw h
  unfold cv_q at h'
  refine nm_r (show (0 : Int32) * 5 + 0 = 0 by decide) ⟨n + 1, cv_w2 S d n hn h2 n 0 (by omega) ?_⟩
  refine br_c (fun hr => ⟨pk_in 0 30 (by omega), ?_⟩) (fun hr => ?_)
  · rw [if_pos hr, ← h2] at h'
    refine br_c (fun h0 => ⟨pk_in 0 6 (by omega), br_t h1 ?_⟩) (fun h0 => ?_)
    · rw [if_pos (show a2 0 = 0 from h0)] at h'
      exact h'
    · rw [if_neg (show ¬ a2 0 = 0 from h0)] at h'
      exact h'
  · rw [if_neg hr] at h'
    exact h'
theorem cv_w74 {post : St2 → Prop} (S : cv_R) (d : Int32) (w : cv_W) (hw : w.1 < 96) (h : post (cv_u 1 dr rw (nI (cv_em kp w 9).1) kp S fi so a1 a2 a3 a4 (cv_em kp w 9).2)) :
    wX_writeAll_74 post (wX_writeAll_12 post d 1) d 0 1 dr rw (nI w.1) kp S.1 S.2.1 S.2.2.1 S.2.2.2.1 S.2.2.2.2.1 S.2.2.2.2.2.1 S.2.2.2.2.2.2 fi so a1 a2 a3 a4 w.2 :=
  cv_emit S w 9 hw (nm_r (show (0 : Int32) + 1 = 1 by decide) (br_t (show (1 : Int32) ≤ 1 by decide) h))
theorem cv_writeAll {post : St2 → Prop} (S : cv_R) (d p : Int32) (hp : p = 0 ∨ p = 1) (n : Nat) (hn : n ≤ 6) (h1 : a1 0 = 1) (h2 : a2 0 = nI n)
    (h : post (cv_u 1 dr rw (nI (cv_wa p d a3 n a5).1) p S fi so a1 a2 a3 a4 (cv_wa p d a3 n a5).2)) : wpX_writeAll post (cv_u 1 dr rw pt kp S fi so a1 a2 a3 a4 a5) d p := by
  have hb := cv_nb hp
  have b1 := cv_wfB p d a3 n (0, a5)
  have b2 := cv_wrB p d (cv_wf p d a3 n (0, a5))
  dsimp only at b1
  have h' : wX_writeAll_74 post (wX_writeAll_12 post d 1) d 0 1 dr rw (nI (cv_wr p d (cv_wf p d a3 n (0, a5))).1) p S.1 S.2.1 S.2.2.1 S.2.2.2.1 S.2.2.2.2.1 S.2.2.2.2.2.1 S.2.2.2.2.2.2 fi so a1 a2 a3 a4 (cv_wr p d (cv_wf p d a3 n (0, a5))).2 := cv_w74 S d _ (by omega) h
  unfold cv_wr at h'
  refine ⟨hb.1, hb.2, 2, br_f (show ¬ (1 : Int32) ≤ 0 by decide) ⟨2, pk_in 0 6 (by omega), br_f (show ¬ a1 0 ≤ 0 by rw [h1]; decide) (br_t (show (0 : Int32) ≤ 0 by decide) ?_)⟩⟩
  refine cv_writeField S d n hn h1 h2 (0, a5) (show 0 + 2 * n + 2 < 96 by omega) (nm_r (show (0 : Int32) + 1 = 1 by decide) ⟨pk_in 0 6 (by omega), br_t (show a1 0 ≤ 1 by rw [h1]; decide) ?_⟩)
  refine br_c (fun hd => ?_) (fun hd => ?_)
  · rw [if_pos hd] at h'
    exact cv_emit S (cv_wf p d a3 n (0, a5)) 8 (by omega) h'
  · rw [if_neg hd] at h'
    exact h'
theorem cv_writtenB {post : Int32 → St2 → Prop} (S : cv_R) (d : Int32) (hd : cv_dB d) (h : post (-1) (cv_u cn dr rw pt kp S fi so a1 a2 a3 a4 a5)) : wpX_written post (cv_u cn dr rw pt kp S fi so a1 a2 a3 a4 a5) d :=
  br_c (fun _ => br_f (by decide) h) (fun h0 => br_c (fun h7 => absurd h7 (hd.resolve_left h0)) (fun _ => br_f (by decide) h))
theorem cv_writeB {post : Int32 → St2 → Prop} (S : cv_R) (d : Int32) (hd : cv_dB d) (h : post (-1) (cv_u cn dr rw pt kp S fi so a1 a2 a3 a4 a5)) : wpX_write post (cv_u cn dr rw pt kp S fi so a1 a2 a3 a4 a5) d :=
  br_c (fun _ => br_f (by decide) h) (fun h0 => br_c (fun h7 => absurd h7 (hd.resolve_left h0)) (fun _ => br_f (by decide) h))
theorem cv_written {post : Int32 → St2 → Prop} (S : cv_R) (d : Int32) (hd : ¬ cv_dB d) (n : Nat) (hn : n ≤ 6) (h1 : a1 0 = 1) (h2 : a2 0 = nI n)
    (h : post (nI (cv_wa 0 d a3 n a5).1) (cv_u 1 dr rw (nI (cv_wa 0 d a3 n a5).1) 0 S fi so a1 a2 a3 a4 (cv_wa 0 d a3 n a5).2)) : wpX_written post (cv_u 1 dr rw pt kp S fi so a1 a2 a3 a4 a5) d :=
  br_f (fun z => hd (Or.inl z)) (br_t (Decidable.byContradiction (fun z => hd (Or.inr z))) (br_t rfl (cv_writeAll S d 0 (Or.inl rfl) n hn h1 h2 h)))
theorem cv_write {post : Int32 → St2 → Prop} (S : cv_R) (d : Int32) (hd : ¬ cv_dB d) (n : Nat) (hn : n ≤ 6) (h1 : a1 0 = 1) (h2 : a2 0 = nI n) (t : Nat → Int32) (ht : t = (cv_wa 0 d a3 n a5).2)
    (h : post (nI (cv_wa 1 d a3 n t).1) (cv_u 1 dr (nI (cv_wa 1 d a3 n t).1) (nI (cv_wa 1 d a3 n t).1) 1 S fi so a1 a2 a3 a4 (cv_wa 1 d a3 n t).2)) : wpX_write post (cv_u 1 dr rw pt kp S fi so a1 a2 a3 a4 a5) d := by
  have b := cv_waB 0 d a3 n a5
  rw [ht] at h
  exact br_f (fun z => hd (Or.inl z)) (br_t (Decidable.byContradiction (fun z => hd (Or.inr z))) (br_t rfl (cv_writeAll S d 0 (Or.inl rfl) n hn h1 h2 (pk_le (cv_wa 0 d a3 n a5).1 96 (fun _ => cv_writeAll S d 1 (Or.inr rfl) n hn h1 h2 h) (fun z => absurd z (by omega))))))
theorem cv_rawAt {post : Int32 → Prop} (S : cv_R) (i m : Nat) (hi : i < m) (hm : m ≤ 96) (h : post (a5 i)) : wpX_rawAt post (cv_u cn dr (nI m) pt kp S fi so a1 a2 a3 a4 a5) (nI i) :=
  br_f (nI_pos (by omega)) (br_t (nI_lt hi (by omega)) ⟨pk_in i 96 (by omega), ek_v (P := fun x => post (a5 x)) (nI_clamp (by omega)) h⟩)
theorem cv_rawAtN {post : Int32 → Prop} (S : cv_R) (p : Int32) (hp : p < 0 ∨ ¬ p < rw) (h : post (-4)) : wpX_rawAt post (cv_u cn dr rw pt kp S fi so a1 a2 a3 a4 a5) p :=
  br_c (fun _ => h) (fun h0 => br_f (hp.resolve_left h0) h)
end
end
section
/-- what the law works out of its three ints (x11, x12, x13: whether a, b, d are in range) -/
def cv_in (x m : Int32) : Int32 := if x < 0 then 0 else if m < x then 0 else 1
def cv_n (x11 x12 : Int32) : Int32 := (if x11 = 0 then 0 else 1) + (if x12 = 0 then 0 else 1)
def cv_mk (x2 : Int32) : Int32 := if x2 &&& 1 = 1 then 6 else 5
def cv_q2 (x1 mk x12 : Int32) : Int32 := if x12 = 0 then 0 else if 6 < x1 then 1 else if x1 = mk then 1 else 0
def cv_q1 (x0 x1 mk x11 x12 : Int32) : Int32 := if cv_n x11 x12 = 0 then 1 else if x11 = 0 then cv_q2 x1 mk x12 else if 6 < x0 then 1 else if x0 = mk then 1 else cv_q2 x1 mk x12
def cv_s7 (x x11 : Int32) : Int32 := if x11 = 0 then 0 else if x = 7 then 1 else 0
/-- due and head, out of n (x15) and quoted (x16) -/
def cv_d1 (x0 x1 x2 x11 x12 x15 x16 : Int32) : Int32 := (x15 + (if x16 = 0 then 0 else 2 + (cv_s7 x0 x11 + cv_s7 x1 x12))) + (if x2 &&& 2 = 0 then 2 else 1)
def cv_h1 (x0 x1 x11 x16 : Int32) : Int32 := if x16 = 0 then (if x11 = 0 then x1 else x0) else 7
def cv_du (x0 x1 x2 x11 x12 : Int32) : Int32 := cv_d1 x0 x1 x2 x11 x12 (cv_n x11 x12) (cv_q1 x0 x1 (cv_mk x2) x11 x12)
def cv_hd (x0 x1 x2 x11 x12 : Int32) : Int32 := cv_h1 x0 x1 x11 (cv_q1 x0 x1 (cv_mk x2) x11 x12)
/-- what the law asks of the answers -/
def cv_E (x4 x5 x6 x7 x8 x9 x10 x13 n du hd : Int32) : Prop :=
  (x13 = 0 ∧ x4 = n ∧ x5 = -1 ∧ x6 = x5 ∧ x7 = -4 ∧ x8 = -4 ∧ x9 = -4 ∧ x10 = -1) ∨
  (¬ x13 = 0 ∧ x4 = n ∧ x5 = du ∧ x6 = x5 ∧ x7 = hd ∧ x8 = 9 ∧ ¬ x9 < 0 ∧ ¬ 8 ≤ x9 ∧ x10 = 1)
section
variable {post : Int32 → St0 → Prop} {mc ms kc ks : Nat} {x0 x1 x2 x4 x5 x6 x7 x8 x9 x10 x11 x12 x13 x14 x15 x16 : Int32}
theorem cv_L297 {n du hd : Int32} (hp : post 1 ()) (h : cv_E x4 x5 x6 x7 x8 x9 x10 x13 n du hd) : wL_lawOf_297 post mc ms x4 x5 x6 x7 x8 x9 x10 x13 n du hd kc ks := by
  rcases h with ⟨h0, h4, h5, h6, h7, h8, h9, h10⟩ | ⟨h0, h4, h5, h6, h7, h8, h9, h9', h10⟩
  · exact br_t h4 (br_t h0 (br_t h5 (br_t h6 (br_t h0 (br_t h7 (br_t h0 (br_t h8 (br_t h0 (br_t h9 (br_t h0 (br_t h10 hp)))))))))))
  · exact br_t h4 (br_f h0 (br_t h5 (br_t h6 (br_f h0 (br_t h7 (br_f h0 (br_t h8 (br_f h0 (br_f h9 (br_f h9' (br_f h0 (br_t h10 hp))))))))))))
theorem cv_L274 {z0 z1 : Int32} (hp : post 1 ()) (h : cv_E x4 x5 x6 x7 x8 x9 x10 x13 x15 (z1 + z0) (cv_h1 x0 x1 x11 x16)) : wL_lawOf_274 post mc ms x0 x1 x4 x5 x6 x7 x8 x9 x10 x11 x13 x15 x16 z0 z1 kc ks := by
  unfold cv_h1 at h
  refine nm_e (br_c (fun h16 => ?_) (fun h16 => ?_))
  · rw [if_pos h16] at h
    refine br_c (fun h11 => ?_) (fun h11 => ?_)
    · rw [if_pos h11] at h
      exact cv_L297 hp h
    · rw [if_neg h11] at h
      exact cv_L297 hp h
  · rw [if_neg h16] at h
    exact cv_L297 hp h
theorem cv_L262 {z0 z1 : Int32} (hp : post 1 ()) (h : cv_E x4 x5 x6 x7 x8 x9 x10 x13 x15 ((z1 + z0) + (if x2 &&& 2 = 0 then 2 else 1)) (cv_h1 x0 x1 x11 x16)) : wL_lawOf_262 post mc ms x0 x1 x2 x4 x5 x6 x7 x8 x9 x10 x11 x13 x15 x16 z0 z1 kc ks := by
  refine br_c (fun h2 => ?_) (fun h2 => ?_)
  · rw [if_pos h2] at h
    exact cv_L274 hp h
  · rw [if_neg h2] at h
    exact cv_L274 hp h
theorem cv_L244 {z0 z1 : Int32} (hp : post 1 ()) (h : cv_E x4 x5 x6 x7 x8 x9 x10 x13 x15 ((x15 + (if x16 = 0 then 0 else 2 + (z1 + z0))) + (if x2 &&& 2 = 0 then 2 else 1)) (cv_h1 x0 x1 x11 x16)) : wL_lawOf_244 post mc ms x0 x1 x2 x4 x5 x6 x7 x8 x9 x10 x11 x13 x15 x16 z0 z1 kc ks := by
  refine nm_e (br_c (fun h16 => ?_) (fun h16 => ?_))
  · rw [if_pos h16] at h
    exact cv_L262 hp h
  · rw [if_neg h16] at h
    exact cv_L262 hp h
theorem cv_L228 {z0 : Int32} (hp : post 1 ()) (h : cv_E x4 x5 x6 x7 x8 x9 x10 x13 x15 ((x15 + (if x16 = 0 then 0 else 2 + (z0 + cv_s7 x1 x12))) + (if x2 &&& 2 = 0 then 2 else 1)) (cv_h1 x0 x1 x11 x16)) : wL_lawOf_228 post mc ms x0 x1 x2 x4 x5 x6 x7 x8 x9 x10 x11 x12 x13 x15 x16 z0 kc ks := by
  unfold cv_s7 at h
  refine br_c (fun h12 => ?_) (fun h12 => ?_)
  · rw [if_pos h12] at h
    exact cv_L244 hp h
  · rw [if_neg h12] at h
    refine br_c (fun h7 => ?_) (fun h7 => ?_)
    · rw [if_pos h7] at h
      exact cv_L244 hp h
    · rw [if_neg h7] at h
      exact cv_L244 hp h
theorem cv_L210 {z0 : Int32} (hp : post 1 ()) (h : cv_E x4 x5 x6 x7 x8 x9 x10 x13 x15 (cv_d1 x0 x1 x2 x11 x12 x15 z0) (cv_h1 x0 x1 x11 z0)) : wL_lawOf_210 post mc ms x0 x1 x2 x4 x5 x6 x7 x8 x9 x10 x11 x12 x13 x15 z0 kc ks := by
  have h' : cv_E x4 x5 x6 x7 x8 x9 x10 x13 x15 ((x15 + (if z0 = 0 then 0 else 2 + ((if x11 = 0 then 0 else if x0 = 7 then 1 else 0) + cv_s7 x1 x12))) + (if x2 &&& 2 = 0 then 2 else 1)) (cv_h1 x0 x1 x11 z0) := h
  refine br_c (fun h11 => ?_) (fun h11 => ?_)
  · rw [if_pos h11] at h'
    exact cv_L228 hp h'
  · rw [if_neg h11] at h'
    refine br_c (fun h7 => ?_) (fun h7 => ?_)
    · rw [if_pos h7] at h'
      exact cv_L228 hp h'
    · rw [if_neg h7] at h'
      exact cv_L228 hp h'
theorem cv_L188 (hp : post 1 ()) (h : cv_E x4 x5 x6 x7 x8 x9 x10 x13 x15 (cv_d1 x0 x1 x2 x11 x12 x15 (cv_q2 x1 x14 x12)) (cv_h1 x0 x1 x11 (cv_q2 x1 x14 x12))) : wL_lawOf_188 post mc ms x0 x1 x2 x4 x5 x6 x7 x8 x9 x10 x11 x12 x13 x14 x15 kc ks := by
  unfold cv_q2 at h
  refine br_c (fun h12 => ?_) (fun h12 => ?_)
  · rw [if_pos h12] at h
    exact cv_L210 hp h
  · rw [if_neg h12] at h
    refine br_c (fun h6 => ?_) (fun h6 => ?_)
    · rw [if_pos h6] at h
      exact cv_L210 hp h
    · rw [if_neg h6] at h
      refine br_c (fun hm => ?_) (fun hm => ?_)
      · rw [if_pos hm] at h
        exact cv_L210 hp h
      · rw [if_neg hm] at h
        exact cv_L210 hp h
theorem cv_L163 {z0 z1 : Int32} (hz : z1 + z0 = cv_n x11 x12) (hp : post 1 ()) (h : cv_E x4 x5 x6 x7 x8 x9 x10 x13 (cv_n x11 x12) (cv_d1 x0 x1 x2 x11 x12 (cv_n x11 x12) (cv_q1 x0 x1 x14 x11 x12)) (cv_h1 x0 x1 x11 (cv_q1 x0 x1 x14 x11 x12))) : wL_lawOf_163 post mc ms x0 x1 x2 x4 x5 x6 x7 x8 x9 x10 x11 x12 x13 x14 z0 z1 kc ks := by
  unfold cv_q1 at h
  refine nm_r hz (br_c (fun hn => ?_) (fun hn => ?_))
  · rw [if_pos hn] at h
    exact cv_L210 hp h
  · rw [if_neg hn] at h
    refine br_c (fun h11 => ?_) (fun h11 => ?_)
    · rw [if_pos h11] at h
      exact cv_L188 hp h
    · rw [if_neg h11] at h
      refine br_c (fun h6 => ?_) (fun h6 => ?_)
      · rw [if_pos h6] at h
        exact cv_L210 hp h
      · rw [if_neg h6] at h
        refine br_c (fun hm => ?_) (fun hm => ?_)
        · rw [if_pos hm] at h
          exact cv_L210 hp h
        · rw [if_neg hm] at h
          exact cv_L188 hp h
theorem cv_L141 (hp : post 1 ()) (h : cv_E x4 x5 x6 x7 x8 x9 x10 x13 (cv_n x11 x12) (cv_d1 x0 x1 x2 x11 x12 (cv_n x11 x12) (cv_q1 x0 x1 x14 x11 x12)) (cv_h1 x0 x1 x11 (cv_q1 x0 x1 x14 x11 x12))) : wL_lawOf_141 post mc ms x0 x1 x2 x4 x5 x6 x7 x8 x9 x10 x11 x12 x13 x14 kc ks := by
  refine br_c (fun h11 => br_c (fun h12 => cv_L163 ?_ hp h) (fun h12 => cv_L163 ?_ hp h)) (fun h11 => br_c (fun h12 => cv_L163 ?_ hp h) (fun h12 => cv_L163 ?_ hp h))
  · unfold cv_n
    rw [if_pos h11, if_pos h12]
  · unfold cv_n
    rw [if_pos h11, if_neg h12]
  · unfold cv_n
    rw [if_neg h11, if_pos h12]
  · unfold cv_n
    rw [if_neg h11, if_neg h12]
theorem cv_L126 (hp : post 1 ()) (h : cv_E x4 x5 x6 x7 x8 x9 x10 x13 (cv_n x11 x12) (cv_du x0 x1 x2 x11 x12) (cv_hd x0 x1 x2 x11 x12)) : wL_lawOf_126 post mc ms x0 x1 x2 x4 x5 x6 x7 x8 x9 x10 x11 x12 x13 kc ks := by
  unfold cv_du cv_hd cv_mk at h
  refine br_c (fun hm => ?_) (fun hm => ?_)
  · rw [if_pos hm] at h
    exact cv_L141 hp h
  · rw [if_neg hm] at h
    exact cv_L141 hp h
theorem cv_L109 (hp : post 1 ()) (h : cv_E x4 x5 x6 x7 x8 x9 x10 (cv_in x2 7) (cv_n x11 x12) (cv_du x0 x1 x2 x11 x12) (cv_hd x0 x1 x2 x11 x12)) : wL_lawOf_109 post mc ms x0 x1 x2 x4 x5 x6 x7 x8 x9 x10 x11 x12 kc ks := by
  unfold cv_in at h
  refine br_c (fun hm => ?_) (fun hm => ?_)
  · rw [if_pos hm] at h
    exact cv_L126 hp h
  · rw [if_neg hm] at h
    refine br_c (fun h7 => ?_) (fun h7 => ?_)
    · rw [if_pos h7] at h
      exact cv_L126 hp h
    · rw [if_neg h7] at h
      exact cv_L126 hp h
theorem cv_L92 (hp : post 1 ()) (h : cv_E x4 x5 x6 x7 x8 x9 x10 (cv_in x2 7) (cv_n x11 (cv_in x1 9)) (cv_du x0 x1 x2 x11 (cv_in x1 9)) (cv_hd x0 x1 x2 x11 (cv_in x1 9))) : wL_lawOf_92 post mc ms x0 x1 x2 x4 x5 x6 x7 x8 x9 x10 x11 kc ks := by
  have e : cv_in x1 9 = if x1 < 0 then 0 else if 9 < x1 then 0 else 1 := rfl
  rw [e] at h
  refine br_c (fun hm => ?_) (fun hm => ?_)
  · rw [if_pos hm] at h
    exact cv_L109 hp h
  · rw [if_neg hm] at h
    refine br_c (fun h7 => ?_) (fun h7 => ?_)
    · rw [if_pos h7] at h
      exact cv_L109 hp h
    · rw [if_neg h7] at h
      exact cv_L109 hp h
/-- the law's tail: aIn first -/
theorem cv_L0 (hp : post 1 ()) (h : cv_E x4 x5 x6 x7 x8 x9 x10 (cv_in x2 7) (cv_n (cv_in x0 9) (cv_in x1 9)) (cv_du x0 x1 x2 (cv_in x0 9) (cv_in x1 9)) (cv_hd x0 x1 x2 (cv_in x0 9) (cv_in x1 9))) :
    (x0 < 0 → wL_lawOf_91 post mc ms x0 x1 x2 x4 x5 x6 x7 x8 x9 x10 kc ks) ∧ (¬ x0 < 0 → ((9 < x0 → wL_lawOf_91 post mc ms x0 x1 x2 x4 x5 x6 x7 x8 x9 x10 kc ks) ∧ (¬ 9 < x0 → wL_lawOf_92 post mc ms x0 x1 x2 x4 x5 x6 x7 x8 x9 x10 1 kc ks))) := by
  have e : cv_in x0 9 = if x0 < 0 then 0 else if 9 < x0 then 0 else 1 := rfl
  rw [e] at h
  refine br_c (fun hm => ?_) (fun hm => ?_)
  · rw [if_pos hm] at h
    exact cv_L92 hp h
  · rw [if_neg hm] at h
    refine br_c (fun h7 => ?_) (fun h7 => ?_)
    · rw [if_pos h7] at h
      exact cv_L92 hp h
    · rw [if_neg h7] at h
      exact cv_L92 hp h
end
end
section
/-- one draft: k drafted before, k' behind -/
def cv_dr (k : Nat) (a : Nat → Int32) (c : Int32) (k' : Nat) (a' : Nat → Int32) : Prop :=
  ((c < 0 ∨ ¬ c ≤ 9) ∧ k' = k ∧ a' = a) ∨ ((¬ c < 0 ∧ c ≤ 9) ∧ k' = k + 1 ∧ a' = upd a k c)
/-- place's loop -/
def cv_cp (a : Nat → Int32) : Nat → Nat → (Nat → Int32) → (Nat → Int32)
  | 0, _, b => b
  | k + 1, i, b => cv_cp a k (i + 1) (upd b i (a i))
section
variable {cn dr rw pt kp fi so : Int32} {a1 a2 a3 a4 a5 : Nat → Int32}
theorem cv_draft {post : Int32 → St2 → Prop} (S : cv_R) (k : Nat) (hk : k < 6) (c : Int32) (h : ∀ r k' a', cv_dr k a4 c k' a' → post r (cv_u cn (nI k') rw pt kp S fi so a1 a2 a3 a' a5)) :
    wpX_draft post (cv_u cn (nI k) rw pt kp S fi so a1 a2 a3 a4 a5) c :=
  br_c (fun h0 => h _ k a4 (Or.inl ⟨Or.inl h0, rfl, rfl⟩)) (fun h0 => br_c (fun h9 => pk_eq k 6 (fun z => absurd z (by omega)) (fun _ => ⟨pk_in k 6 hk,
    nm_r (show upd a4 (nI k).toNatClampNeg c = upd a4 k c by rw [nI_clamp (by omega)]) (nm_r (nI_1 k) (h _ (k + 1) (upd a4 k c) (Or.inr ⟨⟨h0, h9⟩, rfl, rfl⟩)))⟩)) (fun h9 => h _ k a4 (Or.inl ⟨Or.inr h9, rfl, rfl⟩)))
theorem cv_wpl {post : St2 → Prop} (S : cv_R) (n : Nat) (hn : n ≤ 6) : ∀ (k i : Nat) (a3 : Nat → Int32), i + k = n →
    post (cv_u cn 0 rw pt kp S fi so a1 (upd a2 0 (nI n)) (cv_cp a4 k i a3) a4 a5) → wX_place_2 post 0 cn (nI n) rw pt kp S.1 S.2.1 S.2.2.1 S.2.2.2.1 S.2.2.2.2.1 S.2.2.2.2.2.1 S.2.2.2.2.2.2 fi so (k + 1) (nI i) a1 a2 a3 a4 a5 := by
  intro k
  induction k with
  | zero =>
    intro i a3 hi h
    exact pk_le n i (fun _ => ⟨pk_in 0 30 (by omega), nm_e h⟩) (fun z => absurd z (by omega))
  | succ k ih =>
    intro i a3 hi h
    refine pk_le n i (fun z => absurd z (by omega)) (fun _ => ⟨pk_in i 6 (by omega), pk_in i 180 (by omega) (hx := cv_06 i), nm_r (show upd a3 ((0 : Int32) * 6 + nI i).toNatClampNeg (a4 (nI i).toNatClampNeg) = upd a3 i (a4 i) by rw [cv_06, nI_clamp (by omega)]) (nm_r (nI_1 i) ?_)⟩)
    exact ih (i + 1) (upd a3 i (a4 i)) (by omega) h
theorem cv_addRow {post : Int32 → St2 → Prop} (S : cv_R) (n : Nat) (hn : n ≤ 6) (h : post 1 (cv_u 1 0 rw pt kp S fi so (upd a1 0 1) (upd a2 0 (nI n)) (cv_cp a4 n 0 a3) a4 a5)) :
    wpX_addRow post (cv_u 0 (nI n) rw pt kp S fi so a1 a2 a3 a4 a5) :=
  br_f (show ¬ (0 : Int32) = 6 by decide) ⟨pk_in 0 6 (by omega), nm_e (ek_v (P := fun x => wpX_place _ _ x) (show (0 : Int32) * 5 = 0 by decide) ⟨n + 1, cv_wpl S n hn n 0 a3 (by omega) (nm_r (show (0 : Int32) + 1 = 1 by decide) h)⟩)⟩
theorem cv_size {post : Int32 → Prop} (S : cv_R) (h1 : a1 0 = 1) (h : post (a2 0)) : wpX_size post (cv_u 1 dr rw pt kp S fi so a1 a2 a3 a4 a5) 0 0 :=
  br_f (show ¬ (0 : Int32) < 0 by decide) (br_f (show ¬ (1 : Int32) ≤ 0 by decide) (br_f (show ¬ (0 : Int32) < 0 by decide) ⟨pk_in 0 6 (by omega), br_t (show (0 : Int32) < a1 0 by rw [h1]; decide)
    (br_t rfl ⟨pk_in 0 30 (by omega) (hx := by decide), ek_v (P := fun x => post (a2 x)) (show ((0 : Int32) * 5 + 0).toNatClampNeg = 0 by decide) h⟩)⟩))
end
theorem cv_em0 (w : cv_W) (c : Int32) : (cv_em 0 w c).2 = w.2 := by
  show (if (0 : Int32) = 0 then w.2 else upd w.2 w.1 c) = w.2
  exact if_pos rfl
theorem cv_wc0 (d c : Int32) (w : cv_W) : (cv_wc 0 d c w).2 = w.2 := by
  unfold cv_wc
  rw [cv_em0]
  by_cases h : c = 7
  · rw [if_pos h]
    by_cases g : d < 4
    · rw [if_pos g, cv_em0]
    · rw [if_neg g, cv_em0]
  · rw [if_neg h]
theorem cv_wl0 (d : Int32) (lt : Nat → Int32) : ∀ (k i : Nat) (w : cv_W), (cv_wl 0 d lt k i w).2 = w.2 := by
  intro k
  induction k with
  | zero => exact fun i w => rfl
  | succ k ih =>
    intro i w
    have h := ih (i + 1) (cv_wc 0 d (lt i) w)
    rw [cv_wc0] at h
    exact h
theorem cv_we0 (q : Int32) (w : cv_W) : (cv_we 0 q w).2 = w.2 := by
  unfold cv_we
  by_cases h : q = 0
  · rw [if_pos h]
  · rw [if_neg h, cv_em0]
theorem cv_wr0 (d : Int32) (w : cv_W) : (cv_wr 0 d w).2 = w.2 := by
  unfold cv_wr
  by_cases h : d &&& 2 = 0
  · rw [if_pos h, cv_em0]
  · rw [if_neg h]
theorem cv_wa0 (d : Int32) (lt : Nat → Int32) (n : Nat) (t : Nat → Int32) : (cv_wa 0 d lt n t).2 = t := by
  unfold cv_wa cv_wf
  rw [cv_em0, cv_wr0, cv_we0, cv_wl0, cv_we0]
/-- the table: what is asked of one text -/
def cv_k2 (S : cv_R) : Bool := decide (S.1 = 0) && (decide (¬ S.2.2.2.2.2.1 = 0) && (decide (¬ S.2.2.2.2.1 ≤ 0) && (decide (¬ S.2.2.2.2.2.2 = 0) && decide (S.2.1 = 1))))
def cv_k1 (d : Int32) (w : cv_W) (du hd : Int32) : Bool := decide (nI w.1 = du) && (decide (w.2 0 = hd) && (decide (w.2 (w.1 - 1) = 9) && (cv_k2 (cv_ra d w.2 w.1) && cv_rok d w.2 w.1 0 cv_S0)))
def cv_ck (d : Int32) (n : Nat) (a : Nat → Int32) (du hd : Int32) : Bool :=
  decide (nI (cv_wa 0 d (cv_cp a n 0 (fun _ => 0)) n (fun _ => 0)).1 = du) && cv_k1 d (cv_wa 1 d (cv_cp a n 0 (fun _ => 0)) n (fun _ => 0)) du hd
theorem cv_T00 : ∀ d, d < 8 → cv_ck (nI d) 0 (fun _ => 0) (cv_du 0 0 (nI d) 0 0) (cv_hd 0 0 (nI d) 0 0) = true := by decide +kernel
theorem cv_T10 : ∀ d, d < 8 → ∀ x, x < 10 → cv_ck (nI d) 1 (upd (fun _ => 0) 0 (nI x)) (cv_du (nI x) 0 (nI d) 1 0) (cv_hd (nI x) 0 (nI d) 1 0) = true := by decide +kernel
theorem cv_T01 : ∀ d, d < 8 → ∀ x, x < 10 → cv_ck (nI d) 1 (upd (fun _ => 0) 0 (nI x)) (cv_du 0 (nI x) (nI d) 0 1) (cv_hd 0 (nI x) (nI d) 0 1) = true := by decide +kernel
end
section
theorem cv_T11 : ∀ d, d < 8 → ∀ x, x < 10 → ∀ y, y < 10 → cv_ck (nI d) 2 (upd (upd (fun _ => 0) 0 (nI x)) 1 (nI y)) (cv_du (nI x) (nI y) (nI d) 1 1) (cv_hd (nI x) (nI y) (nI d) 1 1) = true := by decide +kernel
end
section
theorem cv_rg {x : Int32} (h : ¬ x < 0 ∧ x ≤ 9) : ∃ j, j < 10 ∧ x = nI j := by
  obtain ⟨j, hj, e⟩ := nI_of2 (n := 9) (M := 9) (by decide) h.1 h.2
  exact ⟨j, by omega, e⟩
theorem cv_rd {x : Int32} (h : ¬ cv_dB x) : ∃ j, j < 8 ∧ x = nI j := by
  obtain ⟨j, hj, e⟩ := nI_of2 (n := 7) (M := 7) (by decide) (fun z => h (Or.inl z)) (Decidable.byContradiction (fun z => h (Or.inr z)))
  exact ⟨j, by omega, e⟩
theorem cv_lt9 {x m : Int32} (h : ¬ x ≤ m) : m < x := Int32.not_le.mp h
theorem cv_in0 {x m : Int32} (h : x < 0 ∨ ¬ x ≤ m) : cv_in x m = 0 := by
  unfold cv_in
  by_cases h0 : x < 0
  · rw [if_pos h0]
  · rw [if_neg h0, if_pos (cv_lt9 (h.resolve_left h0))]
theorem cv_in1 {x m : Int32} (h : ¬ x < 0 ∧ x ≤ m) : cv_in x m = 1 := by
  unfold cv_in
  rw [if_neg h.1, if_neg (fun z => Int32.not_le.mpr z h.2)]
theorem cv_N {a b : Int32} {k1 k2 : Nat} {b1 b2 : Nat → Int32} (h1 : cv_dr 0 (fun _ => 0) a k1 b1) (h2 : cv_dr k1 b1 b k2 b2) : k2 ≤ 6 ∧ nI k2 = cv_n (cv_in a 9) (cv_in b 9) := by
  rcases h1 with ⟨ha, e1, _⟩ | ⟨ha, e1, _⟩ <;> rcases h2 with ⟨hb, e2, _⟩ | ⟨hb, e2, _⟩
  · rw [cv_in0 ha, cv_in0 hb, e2, e1]
    exact ⟨by omega, by decide⟩
  · rw [cv_in0 ha, cv_in1 hb, e2, e1]
    exact ⟨by omega, by decide⟩
  · rw [cv_in1 ha, cv_in0 hb, e2, e1]
    exact ⟨by omega, by decide⟩
  · rw [cv_in1 ha, cv_in1 hb, e2, e1]
    exact ⟨by omega, by decide⟩
theorem cv_K {a b d : Int32} (hd : ¬ cv_dB d) {k1 k2 : Nat} {b1 b2 : Nat → Int32} (h1 : cv_dr 0 (fun _ => 0) a k1 b1) (h2 : cv_dr k1 b1 b k2 b2) :
    cv_ck d k2 b2 (cv_du a b d (cv_in a 9) (cv_in b 9)) (cv_hd a b d (cv_in a 9) (cv_in b 9)) = true := by
  obtain ⟨j, hj, rfl⟩ := cv_rd hd
  rcases h1 with ⟨ha, e1, f1⟩ | ⟨ha, e1, f1⟩ <;> rcases h2 with ⟨hb, e2, f2⟩ | ⟨hb, e2, f2⟩ <;> subst e1 <;> subst f1 <;> subst e2 <;> subst f2
  · rw [cv_in0 ha, cv_in0 hb]
    exact cv_T00 j hj
  · rw [cv_in0 ha, cv_in1 hb]
    obtain ⟨y, hy, rfl⟩ := cv_rg hb
    exact cv_T01 j hj y hy
  · rw [cv_in1 ha, cv_in0 hb]
    obtain ⟨x, hx, rfl⟩ := cv_rg ha
    exact cv_T10 j hj x hx
  · rw [cv_in1 ha, cv_in1 hb]
    obtain ⟨x, hx, rfl⟩ := cv_rg ha
    obtain ⟨y, hy, rfl⟩ := cv_rg hb
    exact cv_T11 j hj x hx y hy
theorem cv_ckP {d : Int32} {n : Nat} {a : Nat → Int32} {du hd : Int32} (h : cv_ck d n a du hd = true) :
    nI (cv_wa 0 d (cv_cp a n 0 (fun _ => 0)) n (fun _ => 0)).1 = du ∧ ∃ m t, cv_wa 1 d (cv_cp a n 0 (fun _ => 0)) n (fun _ => 0) = (m + 1, t) ∧ nI (m + 1) = du ∧ t 0 = hd ∧ t m = 9 ∧
      (cv_ra d t (m + 1)).1 = 0 ∧ ¬ (cv_ra d t (m + 1)).2.2.2.2.2.1 = 0 ∧ ¬ (cv_ra d t (m + 1)).2.2.2.2.1 ≤ 0 ∧ ¬ (cv_ra d t (m + 1)).2.2.2.2.2.2 = 0 ∧ (cv_ra d t (m + 1)).2.1 = 1 ∧ cv_rok d t (m + 1) 0 cv_S0 = true := by
  unfold cv_ck at h
  generalize hw : cv_wa 1 d (cv_cp a n 0 (fun _ => 0)) n (fun _ => 0) = w at h
  obtain ⟨m', t⟩ := w
  have hm : m' = (cv_wr 1 d (cv_wf 1 d (cv_cp a n 0 (fun _ => 0)) n (0, fun _ => 0))).1 + 1 := (congrArg Prod.fst hw).symm
  generalize (cv_wr 1 d (cv_wf 1 d (cv_cp a n 0 (fun _ => 0)) n (0, fun _ => 0))).1 = m at hm
  subst hm
  simp only [cv_k1, cv_k2, Bool.and_eq_true, decide_eq_true_eq, Nat.add_sub_cancel] at h
  exact ⟨h.1, m, t, rfl, h.2.1, h.2.2.1, h.2.2.2.1, h.2.2.2.2.1.1, h.2.2.2.2.1.2.1, h.2.2.2.2.1.2.2.1, h.2.2.2.2.1.2.2.2.1, h.2.2.2.2.1.2.2.2.2, h.2.2.2.2.2⟩
def cv_Z : cv_R := (0, 0, 0, 0, 0, 0, 0)
theorem cv_gd0 (t : Nat → Int32) (j : Nat) : ¬ cv_gd t 0 j := fun g => g.2.2 (show (cv_fn cv_S0).2.2.2.2.1 ≤ 0 by decide)
theorem cv_lawOf (a b d : Int32) : wpL_lawOf (fun r _ => r = 1) 180 2864 () a b d := by
  refine ⟨by omega, by omega, 5, 318, by omega, by omega, ?_⟩
  refine ⟨by omega, by omega, by omega, by omega, by omega, by omega, by omega, by omega, by omega, by omega, ?_⟩
  refine cv_draft cv_Z 0 (by omega) a (fun r1 k1 b1 h1 => ?_)
  refine cv_draft cv_Z k1 (by rcases h1 with ⟨_, e, _⟩ | ⟨_, e, _⟩ <;> omega) b (fun r2 k2 b2 h2 => ?_)
  obtain ⟨hn, en⟩ := cv_N h1 h2
  refine cv_addRow cv_Z k2 hn ?_
  refine cv_size cv_Z pk_us ?_
  by_cases hd : cv_dB d
  · refine cv_writtenB cv_Z d hd ?_
    refine cv_writeB cv_Z d hd ?_
    refine cv_rawAtN cv_Z 0 (Or.inr (by decide)) ?_
    refine cv_rawAtN cv_Z _ (Or.inl (by decide)) ?_
    refine cv_guess cv_Z 0 (by omega) (fun g S fi so c1 c2 c3 hg => ?_)
    refine cv_readBad S d hd ?_
    have hg' : g = -4 := hg.elim (fun z => z.1) (fun z => z.2.elim (fun j w => absurd w.2 (cv_gd0 _ j)))
    exact cv_L0 rfl (Or.inl ⟨cv_in0 hd, by rw [pk_us]; exact en, rfl, rfl, rfl, rfl, hg', rfl⟩)
  · obtain ⟨e0, m, t, ew, em, et0, etm, s1, s2, s3, s4, s5, s6⟩ := cv_ckP (cv_K hd h1 h2)
    have bm : m + 1 ≤ 96 := by
      have b := cv_waB 1 d (cv_cp b2 k2 0 (fun _ => 0)) k2 (fun _ => 0)
      rw [ew] at b
      dsimp only at b
      omega
    obtain ⟨jd, hjd, ejd⟩ := cv_rd hd
    refine cv_written cv_Z d hd k2 hn pk_us pk_us ?_
    refine cv_write cv_Z d hd k2 hn pk_us pk_us (fun _ => 0) (by rw [cv_wa0, cv_wa0]) ?_
    rw [ew]
    refine cv_rawAt cv_Z 0 (m + 1) (by omega) bm ?_
    refine ek_v (P := fun x => wpX_rawAt _ _ x) (nI_pred m) (cv_rawAt cv_Z m (m + 1) (by omega) bm ?_)
    refine cv_guess cv_Z (m + 1) bm (fun g S fi so c1 c2 c3 hg => ?_)
    refine cv_read S d (m + 1) bm hd s1 s4 s6 (fun S' cn' fi' so' c1' c2' c3' => ?_)
    have hg' : ¬ g < 0 ∧ ¬ 8 ≤ g := by
      rcases hg with ⟨_, z⟩ | ⟨⟨i, hi, e⟩, _⟩
      · exact absurd ⟨by rw [← ejd]; exact s1, by rw [← ejd]; exact s2, by rw [← ejd]; exact s3⟩ (z jd hjd)
      · rw [e]
        exact ⟨nI_pos (by omega), nI_ge (b := 8) hi (by decide)⟩
    exact cv_L0 rfl (Or.inr ⟨by rw [cv_in1 ⟨fun z => hd (Or.inl z), Decidable.byContradiction (fun z => hd (Or.inr z))⟩]; decide, by rw [pk_us]; exact en, e0, em.trans e0.symm, et0, etm, hg'.1, hg'.2, s5⟩)
theorem cv_cell (post : Int32 → Prop) (L : Nat) (xs : Nat → Int32) (hL : L ≤ 3) (i : Nat) (hi : i < 3) (h : ∀ r, post r) : wpL_cellAt post L xs () (nI i) :=
  pk_le L i (fun _ => h _) (fun z => ⟨pk_in i L z, h _⟩)
theorem i_vc (xs : Nat → Int32) (L : Nat) (hL : L ≤ 3) : wpL_law (fun r => r = 1) L xs :=
  cv_cell _ L xs hL 0 (by omega) (fun a => cv_cell _ L xs hL 1 (by omega) (fun b => cv_cell _ L xs hL 2 (by omega) (fun d => ⟨180, 2864, by omega, by omega, cv_lawOf a b d⟩)))
end
