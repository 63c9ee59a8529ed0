section
/-! trees of nodes (shape alone), contexts (innermost frame first) -/
abbrev rb_T : Type := Lean.RArray Unit
abbrev rb_F : Type := Bool × Nat × rb_T
def rb_io : rb_T → List Nat
  | .leaf _ => []
  | .branch n l r => rb_io l ++ n :: rb_io r
def rb_at : rb_T → Nat
  | .leaf _ => 0
  | .branch n _ _ => n
/-- node n, its child on side e is a, the other one b -/
def rb_mk (e : Bool) (n : Nat) (a b : rb_T) : rb_T := match e with
  | true => .branch n b a
  | false => .branch n a b
def rb_plug : List rb_F → rb_T → rb_T
  | [], t => t
  | (d, p, s) :: C, t => rb_plug C (rb_mk d p t s)
def rb_par : List rb_F → Nat
  | [] => 0
  | (_, p, _) :: _ => p
def rb_cl : List rb_F → List Nat
  | [] => []
  | (d, p, s) :: C => rb_cl C ++ (match d with | true => rb_io s ++ [p] | false => [])
def rb_cr : List rb_F → List Nat
  | [] => []
  | (d, p, s) :: C => (match d with | true => [] | false => p :: rb_io s) ++ rb_cr C
def rb_cn : List rb_F → List Nat
  | [] => []
  | (_, p, s) :: C => p :: (rb_io s ++ rb_cn C)
theorem rb_at_mk (e : Bool) (n : Nat) (a b : rb_T) : rb_at (rb_mk e n a b) = n := by
  cases e <;> rfl
theorem rb_io_plug : ∀ (C : List rb_F) (t : rb_T), rb_io (rb_plug C t) = rb_cl C ++ (rb_io t ++ rb_cr C) := by
  intro C
  induction C with
  | nil => intro t; simp [rb_plug, rb_cl, rb_cr]
  | cons f C ih =>
    intro t
    obtain ⟨d, p, s⟩ := f
    cases d <;> simp [rb_plug, rb_cl, rb_cr, ih, rb_mk, rb_io]
theorem rb_io_mk (e : Bool) (n : Nat) (a b : rb_T) : (rb_io (rb_mk e n a b)).Perm (n :: (rb_io a ++ rb_io b)) := by
  refine List.perm_iff_count.mpr (fun x => ?_)
  cases e <;> simp [rb_mk, rb_io, List.count_append, List.count_cons] <;> omega
theorem rb_perm : ∀ (C : List rb_F) (t : rb_T), (rb_io (rb_plug C t)).Perm (rb_io t ++ rb_cn C) := by
  intro C
  induction C with
  | nil => intro t; simp [rb_plug, rb_cn]
  | cons f C ih =>
    intro t
    obtain ⟨d, p, s⟩ := f
    refine (ih (rb_mk d p t s)).trans (((rb_io_mk d p t s).append_right _).trans ?_)
    refine List.perm_iff_count.mpr (fun x => ?_)
    simp [rb_cn, List.count_append, List.count_cons]
    omega
theorem rb_nd {C : List rb_F} {t : rb_T} (h : (rb_io (rb_plug C t)).Nodup) : (rb_io t ++ rb_cn C).Nodup := (rb_perm C t).nodup_iff.mp h
theorem rb_at_mem {t : rb_T} (h : rb_at t ≠ 0) : rb_at t ∈ rb_io t := by
  cases t with
  | leaf u => exact absurd rfl h
  | branch n l r => simp [rb_at, rb_io]
theorem rb_io_mk_cg {e : Bool} {n : Nat} {a b c d : rb_T} (h1 : rb_io a = rb_io c) (h2 : rb_io b = rb_io d) : rb_io (rb_mk e n a b) = rb_io (rb_mk e n c d) := by
  cases e <;> simp [rb_mk, rb_io, h1, h2]
theorem rb_io_turn (e : Bool) (n x : Nat) (o i b : rb_T) : rb_io (rb_mk e x o (rb_mk e n i b)) = rb_io (rb_mk e n (rb_mk e x o i) b) := by
  cases e <;> simp [rb_mk, rb_io]
theorem rb_io_plug_cg {C : List rb_F} {t t' : rb_T} (h : rb_io t = rb_io t') : rb_io (rb_plug C t) = rb_io (rb_plug C t') := by
  rw [rb_io_plug, rb_io_plug, h]
theorem rb_mk_not (e : Bool) (n : Nat) (a b : rb_T) : rb_mk (!e) n a b = rb_mk e n b a := by
  cases e <;> rfl
theorem rb_plug_app : ∀ (D C : List rb_F) (t : rb_T), rb_plug (D ++ C) t = rb_plug C (rb_plug D t) := by
  intro D
  induction D with
  | nil => intro C t; rfl
  | cons f D ih =>
    intro C t
    obtain ⟨d, p, s⟩ := f
    exact ih C _
theorem rb_cn_len (C : List rb_F) : C.length ≤ (rb_cn C).length := by
  induction C with
  | nil => simp
  | cons f C ih =>
    obtain ⟨d, p, s⟩ := f
    simp [rb_cn]
    omega
/-- a node of the tree: the way to it -/
theorem rb_way : ∀ (t : rb_T) (x : Nat), x ∈ rb_io t → ∃ C l r, t = rb_plug C (.branch x l r) := by
  intro t
  induction t with
  | leaf u => intro x h; simp [rb_io] at h
  | branch n l r ihl ihr =>
    intro x h
    simp only [rb_io, List.mem_append, List.mem_cons] at h
    rcases h with h | h | h
    · obtain ⟨C, a, b, e⟩ := ihl x h
      exact ⟨C ++ [(false, n, r)], a, b, by rw [rb_plug_app, ← e]; rfl⟩
    · exact ⟨[], l, r, by rw [h]; rfl⟩
    · obtain ⟨C, a, b, e⟩ := ihr x h
      exact ⟨C ++ [(true, n, l)], a, b, by rw [rb_plug_app, ← e]; rfl⟩
/-! pointers -/
def rb_set {α : Type} (f : Nat → α) (n : Nat) (v : α) : Nat → α := fun k => if k = n then v else f k
theorem rb_set_off {α : Type} {f : Nat → α} {n k : Nat} {v : α} (h : k ≠ n) : rb_set f n v k = f k := if_neg h
theorem rb_set_on {α : Type} {f : Nat → α} {n : Nat} {v : α} : rb_set f n v n = v := if_pos rfl
def rb_sc (ch : Bool → Nat → Nat) (e : Bool) (n v : Nat) : Bool → Nat → Nat := fun e' => match e, e' with
  | true, true => rb_set (ch true) n v
  | true, false => ch false
  | false, true => ch true
  | false, false => rb_set (ch false) n v
theorem rb_sc_on (ch : Bool → Nat → Nat) (e : Bool) (n v : Nat) : rb_sc ch e n v e n = v := by
  cases e <;> exact rb_set_on
theorem rb_sc_k {ch : Bool → Nat → Nat} {n v k : Nat} (h : k ≠ n) (e e' : Bool) : rb_sc ch e n v e' k = ch e' k := by
  cases e <;> cases e' <;> first | rfl | exact rb_set_off h
theorem rb_sc_n (ch : Bool → Nat → Nat) (e : Bool) (n v k : Nat) : rb_sc ch e n v (!e) k = ch (!e) k := by
  cases e <;> rfl
theorem rb_sc_m (ch : Bool → Nat → Nat) (e : Bool) (n v k : Nat) : rb_sc ch (!e) n v e k = ch e k := by
  cases e <;> rfl
def rb_TS (ch : Bool → Nat → Nat) (pa : Nat → Nat) : rb_T → Nat → Prop
  | .leaf _, _ => True
  | .branch n l r, par => 0 < n ∧ pa n = par ∧ ch false n = rb_at l ∧ ch true n = rb_at r ∧ rb_TS ch pa l n ∧ rb_TS ch pa r n
def rb_CS (ch : Bool → Nat → Nat) (pa : Nat → Nat) (root : Nat) : List rb_F → Nat → Prop
  | [], a => root = a
  | (d, p, s) :: C, a => 0 < p ∧ ch d p = a ∧ ch (!d) p = rb_at s ∧ pa p = rb_par C ∧ rb_TS ch pa s p ∧ rb_CS ch pa root C p
theorem rb_TS_mk {ch : Bool → Nat → Nat} {pa : Nat → Nat} (e : Bool) (n : Nat) (a b : rb_T) (par : Nat) : rb_TS ch pa (rb_mk e n a b) par ↔ 0 < n ∧ pa n = par ∧ ch e n = rb_at a ∧ ch (!e) n = rb_at b ∧ rb_TS ch pa a n ∧ rb_TS ch pa b n := by
  cases e
  · exact Iff.rfl
  · exact ⟨fun ⟨h1, h2, h3, h4, h5, h6⟩ => ⟨h1, h2, h4, h3, h6, h5⟩, fun ⟨h1, h2, h3, h4, h5, h6⟩ => ⟨h1, h2, h4, h3, h6, h5⟩⟩
theorem rb_TS_cg {ch ch' : Bool → Nat → Nat} {pa pa' : Nat → Nat} : ∀ (t : rb_T) (par : Nat), rb_TS ch pa t par → (∀ k, k ∈ rb_io t → ∀ e, ch' e k = ch e k) → (∀ k, k ∈ rb_io t → pa' k = pa k) → rb_TS ch' pa' t par := by
  intro t
  induction t with
  | leaf u => intro par _ _ _; trivial
  | branch n l r ihl ihr =>
    intro par h hc hp
    obtain ⟨h1, h2, h3, h4, h5, h6⟩ := h
    have m : n ∈ rb_io (.branch n l r) := by simp [rb_io]
    refine ⟨h1, by rw [hp n m, h2], by rw [hc n m, h3], by rw [hc n m, h4], ihl n h5 (fun k hk => hc k ?_) (fun k hk => hp k ?_), ihr n h6 (fun k hk => hc k ?_) (fun k hk => hp k ?_)⟩ <;> simp [rb_io, hk]
theorem rb_TS_re {ch ch' : Bool → Nat → Nat} {pa pa' : Nat → Nat} {t : rb_T} {par par' : Nat} (h : rb_TS ch pa t par) (nd : (rb_io t).Nodup) (hc : ∀ k, k ∈ rb_io t → ∀ e, ch' e k = ch e k) (hp : ∀ k, k ∈ rb_io t → k ≠ rb_at t → pa' k = pa k) (ha : rb_at t ≠ 0 → pa' (rb_at t) = par') : rb_TS ch' pa' t par' := by
  cases t with
  | leaf u => trivial
  | branch n l r =>
    obtain ⟨h1, h2, h3, h4, h5, h6⟩ := h
    have m : n ∈ rb_io (.branch n l r) := by simp [rb_io]
    have nl : n ∉ rb_io l ∧ n ∉ rb_io r := by
      simp only [rb_io, List.nodup_append, List.nodup_cons] at nd
      exact ⟨fun z => nd.2.2 n z n (by simp) rfl, nd.2.1.1⟩
    refine ⟨h1, ha (by simp only [rb_at]; omega), by rw [hc n m, h3], by rw [hc n m, h4], rb_TS_cg l n h5 (fun k hk => hc k (by simp [rb_io, hk])) (fun k hk => hp k (by simp [rb_io, hk]) ?_), rb_TS_cg r n h6 (fun k hk => hc k (by simp [rb_io, hk])) (fun k hk => hp k (by simp [rb_io, hk]) ?_)⟩
    · intro z; simp only [rb_at] at z; rw [z] at hk; exact nl.1 hk
    · intro z; simp only [rb_at] at z; rw [z] at hk; exact nl.2 hk
theorem rb_CS_cg {ch ch' : Bool → Nat → Nat} {pa pa' : Nat → Nat} {root : Nat} : ∀ (C : List rb_F) (a : Nat), rb_CS ch pa root C a → (∀ k, k ∈ rb_cn C → ∀ e, ch' e k = ch e k) → (∀ k, k ∈ rb_cn C → pa' k = pa k) → rb_CS ch' pa' root C a := by
  intro C
  induction C with
  | nil => intro a h _ _; exact h
  | cons f C ih =>
    obtain ⟨d, p, s⟩ := f
    intro a h hc hp
    obtain ⟨h1, h2, h3, h4, h5, h6⟩ := h
    have m : p ∈ rb_cn ((d, p, s) :: C) := by simp [rb_cn]
    exact ⟨h1, by rw [hc p m, h2], by rw [hc p m, h3], by rw [hp p m, h4], rb_TS_cg s p h5 (fun k hk => hc k (by simp [rb_cn, hk])) (fun k hk => hp k (by simp [rb_cn, hk])), ih p h6 (fun k hk => hc k (by simp [rb_cn, hk])) (fun k hk => hp k (by simp [rb_cn, hk]))⟩
theorem rb_TS_plug {ch : Bool → Nat → Nat} {pa : Nat → Nat} {root : Nat} : ∀ (C : List rb_F) (t : rb_T), (root = rb_at (rb_plug C t) ∧ rb_TS ch pa (rb_plug C t) 0) ↔ (rb_CS ch pa root C (rb_at t) ∧ rb_TS ch pa t (rb_par C)) := by
  intro C
  induction C with
  | nil => intro t; exact Iff.rfl
  | cons f C ih =>
    obtain ⟨d, p, s⟩ := f
    intro t
    refine (ih (rb_mk d p t s)).trans ?_
    rw [rb_TS_mk, rb_at_mk]
    exact ⟨fun ⟨h1, h2, h3, h4, h5, h6, h7⟩ => ⟨⟨h2, h4, h5, h3, h7, h1⟩, h6⟩, fun ⟨⟨h2, h4, h5, h3, h7, h1⟩, h6⟩ => ⟨h1, h2, h3, h4, h5, h6, h7⟩⟩
/-! replace: what led to n leads to b -/
def rb_rpr (root : Nat) (pa : Nat → Nat) (n b : Nat) : Nat := if pa n = 0 then b else root
def rb_rpc (ch : Bool → Nat → Nat) (pa : Nat → Nat) (n b : Nat) : Bool → Nat → Nat := if pa n = 0 then ch else rb_sc ch (!(decide (ch false (pa n) = n))) (pa n) b
theorem rb_rpc_off {ch : Bool → Nat → Nat} {pa : Nat → Nat} {n b k : Nat} (h : pa n ≠ 0 → k ≠ pa n) (e : Bool) : rb_rpc ch pa n b e k = ch e k := by
  unfold rb_rpc
  by_cases z : pa n = 0
  · rw [if_pos z]
  · rw [if_neg z]
    exact rb_sc_k (h z) _ e
theorem rb_par_mem {C : List rb_F} (h : rb_par C ≠ 0) : rb_par C ∈ rb_cn C := by
  cases C with
  | nil => exact absurd rfl h
  | cons f C =>
    obtain ⟨d, p, s⟩ := f
    simp [rb_par, rb_cn]
theorem rb_replace {ch : Bool → Nat → Nat} {pa : Nat → Nat} {root n b : Nat} {C : List rb_F} (h : rb_CS ch pa root C n) (hp : pa n = rb_par C) (h0 : n ≠ 0) (nd : (n :: rb_cn C).Nodup) (hb : b ∉ rb_cn C) : rb_CS (rb_rpc ch pa n b) (rb_set pa b (pa n)) (rb_rpr root pa n b) C b := by
  cases C with
  | nil =>
    have hp' : pa n = 0 := hp
    show rb_rpr root pa n b = b
    unfold rb_rpr
    rw [if_pos hp']
  | cons f C =>
    obtain ⟨d, p, s⟩ := f
    have hp' : pa n = p := hp
    obtain ⟨h1, h2, h3, h4, h5, h6⟩ := h
    have hp0 : ¬ pa n = 0 := by omega
    simp only [rb_cn, List.nodup_cons, List.nodup_append, List.mem_cons, List.mem_append, not_or] at nd hb
    have hs : n ≠ rb_at s := fun z => nd.1.2.1 (by rw [z]; exact rb_at_mem (by omega))
    have hd : (!(decide (ch false p = n))) = d := by
      cases d
      · simp [h2]
      · have : ch false p = rb_at s := h3
        simp [this, Ne.symm hs]
    have er : rb_rpr root pa n b = root := by unfold rb_rpr; rw [if_neg hp0]
    have ec : rb_rpc ch pa n b = rb_sc ch d p b := by unfold rb_rpc; rw [if_neg hp0, hp', hd]
    rw [er, ec, hp']
    refine ⟨h1, rb_sc_on _ _ _ _, (rb_sc_n _ _ _ _ _).trans h3, (rb_set_off (fun z => hb.1 z.symm)).trans h4, rb_TS_cg s p h5 ?_ ?_, rb_CS_cg C p h6 ?_ ?_⟩
    · intro k hk e; exact rb_sc_k (fun z => nd.2.1.1 (by rw [← z]; exact hk)) _ _
    · intro k hk; exact rb_set_off (fun z => hb.2.1 (by rw [← z]; exact hk))
    · intro k hk e; exact rb_sc_k (fun z => nd.2.1.2 (by rw [← z]; exact hk)) _ _
    · intro k hk; exact rb_set_off (fun z => hb.2.2 (by rw [← z]; exact hk))
end
section
/-! sizes and sums -/
def rb_ls (val : Nat → Int32) : List Nat → Int64
  | [] => 0
  | x :: w => (val x).toInt64 + rb_ls val w
theorem rb_ls_app (val : Nat → Int32) (a b : List Nat) : rb_ls val (a ++ b) = rb_ls val a + rb_ls val b := by
  induction a with
  | nil => simp [rb_ls]
  | cons x a ih =>
    simp only [List.cons_append, rb_ls, ih]
    grind
theorem rb_ls_cg {val val' : Nat → Int32} {w : List Nat} (h : ∀ k, k ∈ w → val' k = val k) : rb_ls val' w = rb_ls val w := by
  induction w with
  | nil => rfl
  | cons x w ih =>
    simp only [rb_ls]
    rw [ih (fun k hk => h k (by simp [hk])), h x (by simp)]
theorem rb_len_mk (e : Bool) (n : Nat) (a b : rb_T) : (rb_io (rb_mk e n a b)).length = (rb_io a).length + (rb_io b).length + 1 := by
  cases e <;> simp [rb_mk, rb_io] <;> omega
theorem rb_ls_mk (val : Nat → Int32) (e : Bool) (n : Nat) (a b : rb_T) : rb_ls val (rb_io (rb_mk e n a b)) = rb_ls val (rb_io a) + rb_ls val (rb_io b) + (val n).toInt64 := by
  cases e <;> simp only [rb_mk, rb_io, rb_ls_app, rb_ls] <;> grind
def rb_TZ (val sz : Nat → Int32) (tot : Nat → Int64) : rb_T → Prop
  | .leaf _ => True
  | .branch n l r => sz n = nI ((rb_io l).length + (rb_io r).length + 1) ∧ tot n = rb_ls val (rb_io l) + rb_ls val (rb_io r) + (val n).toInt64 ∧ rb_TZ val sz tot l ∧ rb_TZ val sz tot r
theorem rb_TZ_mk {val sz : Nat → Int32} {tot : Nat → Int64} (e : Bool) (n : Nat) (a b : rb_T) : rb_TZ val sz tot (rb_mk e n a b) ↔ sz n = nI ((rb_io a).length + (rb_io b).length + 1) ∧ tot n = rb_ls val (rb_io a) + rb_ls val (rb_io b) + (val n).toInt64 ∧ rb_TZ val sz tot a ∧ rb_TZ val sz tot b := by
  cases e
  · exact Iff.rfl
  · simp only [rb_mk, rb_TZ]
    rw [Nat.add_comm (rb_io b).length, show rb_ls val (rb_io b) + rb_ls val (rb_io a) = rb_ls val (rb_io a) + rb_ls val (rb_io b) by grind, and_comm (a := rb_TZ val sz tot b)]
def rb_CZ (val sz : Nat → Int32) (tot : Nat → Int64) : List rb_F → Nat → Int64 → Prop
  | [], _, _ => True
  | (_, p, s) :: C, m, v => sz p = nI (m + (rb_io s).length + 1) ∧ tot p = v + rb_ls val (rb_io s) + (val p).toInt64 ∧ rb_TZ val sz tot s ∧ rb_CZ val sz tot C (m + (rb_io s).length + 1) (v + rb_ls val (rb_io s) + (val p).toInt64)
def rb_DZ (val sz : Nat → Int32) (tot : Nat → Int64) : List rb_F → Prop
  | [] => True
  | (_, _, s) :: C => rb_TZ val sz tot s ∧ rb_DZ val sz tot C
theorem rb_TZ_cg {val val' sz sz' : Nat → Int32} {tot tot' : Nat → Int64} : ∀ t : rb_T, rb_TZ val sz tot t → (∀ k, k ∈ rb_io t → val' k = val k) → (∀ k, k ∈ rb_io t → sz' k = sz k) → (∀ k, k ∈ rb_io t → tot' k = tot k) → rb_TZ val' sz' tot' t := by
  intro t
  induction t with
  | leaf u => intro _ _ _ _; trivial
  | branch n l r ihl ihr =>
    intro h hv hs ht
    obtain ⟨h1, h2, h3, h4⟩ := h
    have m : n ∈ rb_io (.branch n l r) := by simp [rb_io]
    have ml : ∀ k, k ∈ rb_io l → k ∈ rb_io (.branch n l r) := fun k hk => by simp [rb_io, hk]
    have mr : ∀ k, k ∈ rb_io r → k ∈ rb_io (.branch n l r) := fun k hk => by simp [rb_io, hk]
    refine ⟨by rw [hs n m, h1], ?_, ihl h3 (fun k hk => hv k (ml k hk)) (fun k hk => hs k (ml k hk)) (fun k hk => ht k (ml k hk)), ihr h4 (fun k hk => hv k (mr k hk)) (fun k hk => hs k (mr k hk)) (fun k hk => ht k (mr k hk))⟩
    rw [ht n m, h2, hv n m, rb_ls_cg (fun k hk => hv k (ml k hk)), rb_ls_cg (fun k hk => hv k (mr k hk))]
theorem rb_CZ_cg {val sz sz' : Nat → Int32} {tot tot' : Nat → Int64} : ∀ (C : List rb_F) (m : Nat) (v : Int64), rb_CZ val sz tot C m v → (∀ k, k ∈ rb_cn C → sz' k = sz k) → (∀ k, k ∈ rb_cn C → tot' k = tot k) → rb_CZ val sz' tot' C m v := by
  intro C
  induction C with
  | nil => intro m v _ _ _; trivial
  | cons f C ih =>
    obtain ⟨d, p, s⟩ := f
    intro m v h hs ht
    obtain ⟨h1, h2, h3, h4⟩ := h
    have mp : p ∈ rb_cn ((d, p, s) :: C) := by simp [rb_cn]
    have ms : ∀ k, k ∈ rb_io s → k ∈ rb_cn ((d, p, s) :: C) := fun k hk => by simp [rb_cn, hk]
    have mc : ∀ k, k ∈ rb_cn C → k ∈ rb_cn ((d, p, s) :: C) := fun k hk => by simp [rb_cn, hk]
    exact ⟨by rw [hs p mp, h1], by rw [ht p mp, h2], rb_TZ_cg s h3 (fun _ _ => rfl) (fun k hk => hs k (ms k hk)) (fun k hk => ht k (ms k hk)), ih _ _ h4 (fun k hk => hs k (mc k hk)) (fun k hk => ht k (mc k hk))⟩
theorem rb_DZ_cg {val val' sz sz' : Nat → Int32} {tot tot' : Nat → Int64} : ∀ (C : List rb_F), rb_DZ val sz tot C → (∀ k, k ∈ rb_cn C → val' k = val k) → (∀ k, k ∈ rb_cn C → sz' k = sz k) → (∀ k, k ∈ rb_cn C → tot' k = tot k) → rb_DZ val' sz' tot' C := by
  intro C
  induction C with
  | nil => intro _ _ _ _; trivial
  | cons f C ih =>
    obtain ⟨d, p, s⟩ := f
    intro h hv hs ht
    have ms : ∀ k, k ∈ rb_io s → k ∈ rb_cn ((d, p, s) :: C) := fun k hk => by simp [rb_cn, hk]
    have mc : ∀ k, k ∈ rb_cn C → k ∈ rb_cn ((d, p, s) :: C) := fun k hk => by simp [rb_cn, hk]
    exact ⟨rb_TZ_cg s h.1 (fun k hk => hv k (ms k hk)) (fun k hk => hs k (ms k hk)) (fun k hk => ht k (ms k hk)), ih h.2 (fun k hk => hv k (mc k hk)) (fun k hk => hs k (mc k hk)) (fun k hk => ht k (mc k hk))⟩
theorem rb_TZ_plug {val sz : Nat → Int32} {tot : Nat → Int64} : ∀ (C : List rb_F) (t : rb_T), rb_TZ val sz tot (rb_plug C t) ↔ (rb_TZ val sz tot t ∧ rb_CZ val sz tot C (rb_io t).length (rb_ls val (rb_io t))) := by
  intro C
  induction C with
  | nil => intro t; exact ⟨fun h => ⟨h, trivial⟩, fun h => h.1⟩
  | cons f C ih =>
    obtain ⟨d, p, s⟩ := f
    intro t
    refine (ih (rb_mk d p t s)).trans ?_
    rw [rb_TZ_mk, rb_len_mk, rb_ls_mk]
    exact ⟨fun ⟨⟨h1, h2, h3, h4⟩, h5⟩ => ⟨h3, h1, h2, h4, h5⟩, fun ⟨h3, h1, h2, h4, h5⟩ => ⟨⟨h1, h2, h3, h4⟩, h5⟩⟩
theorem rb_CZ_DZ {val sz : Nat → Int32} {tot : Nat → Int64} : ∀ (C : List rb_F) (m : Nat) (v : Int64), rb_CZ val sz tot C m v → rb_DZ val sz tot C := by
  intro C
  induction C with
  | nil => intro m v _; trivial
  | cons f C ih =>
    obtain ⟨d, p, s⟩ := f
    intro m v h
    exact ⟨h.2.2.1, ih _ _ h.2.2.2⟩
theorem rb_sz_at {val sz : Nat → Int32} {tot : Nat → Int64} {t : rb_T} (h : rb_TZ val sz tot t) (h0 : sz 0 = 0) : sz (rb_at t) = nI (rb_io t).length := by
  cases t with
  | leaf u => exact h0
  | branch n l r =>
    simp only [rb_at, rb_io, List.length_append, List.length_cons]
    rw [h.1, Nat.add_assoc]
theorem rb_tot_at {val sz : Nat → Int32} {tot : Nat → Int64} {t : rb_T} (h : rb_TZ val sz tot t) (h0 : tot 0 = 0) : tot (rb_at t) = rb_ls val (rb_io t) := by
  cases t with
  | leaf u => exact h0
  | branch n l r =>
    simp only [rb_at, rb_io, rb_ls_app, rb_ls]
    rw [h.2.1]
    grind
/-! refresh -/
def rb_rs (sz : Nat → Int32) (ch : Bool → Nat → Nat) (n : Nat) : Nat → Int32 := rb_set sz n (sz (ch false n) + sz (ch true n) + 1)
def rb_rt (tot : Nat → Int64) (val : Nat → Int32) (ch : Bool → Nat → Nat) (n : Nat) : Nat → Int64 := rb_set tot n (tot (ch false n) + tot (ch true n) + (val n).toInt64)
theorem rb_refresh {ch : Bool → Nat → Nat} {pa : Nat → Nat} {val sz : Nat → Int32} {tot : Nat → Int64} {e : Bool} {n par : Nat} {a b : rb_T} (hs : rb_TS ch pa (rb_mk e n a b) par) (za : rb_TZ val sz tot a) (zb : rb_TZ val sz tot b) (na : n ∉ rb_io a) (nb : n ∉ rb_io b) (s0 : sz 0 = 0) (t0 : tot 0 = 0) :
    rb_TZ val (rb_rs sz ch n) (rb_rt tot val ch n) (rb_mk e n a b) ∧ rb_rs sz ch n 0 = 0 ∧ rb_rt tot val ch n 0 = 0 := by
  obtain ⟨h1, h2, h3, h4, h5, h6⟩ := (rb_TS_mk e n a b par).mp hs
  have ne : ∀ w : List Nat, n ∉ w → ∀ k, k ∈ w → k ≠ n := fun w hw k hk z => hw (z ▸ hk)
  have sa := rb_sz_at za s0
  have sb := rb_sz_at zb s0
  have ta := rb_tot_at za t0
  have tb := rb_tot_at zb t0
  have esz : sz (ch false n) + sz (ch true n) + 1 = nI ((rb_io a).length + (rb_io b).length + 1) := by
    cases e
    · have h4' : ch true n = rb_at b := h4
      rw [h3, h4', sa, sb, nI_add, nI_1]
    · have h4' : ch false n = rb_at b := h4
      rw [h3, h4', sa, sb, nI_add, nI_1, Nat.add_comm (rb_io b).length]
  have eto : tot (ch false n) + tot (ch true n) + (val n).toInt64 = rb_ls val (rb_io a) + rb_ls val (rb_io b) + (val n).toInt64 := by
    cases e
    · have h4' : ch true n = rb_at b := h4
      rw [h3, h4', ta, tb]
    · have h4' : ch false n = rb_at b := h4
      rw [h3, h4', ta, tb]
      grind
  refine ⟨(rb_TZ_mk e n a b).mpr ⟨?_, ?_, rb_TZ_cg a za (fun _ _ => rfl) (fun k hk => rb_set_off (ne _ na k hk)) (fun k hk => rb_set_off (ne _ na k hk)), rb_TZ_cg b zb (fun _ _ => rfl) (fun k hk => rb_set_off (ne _ nb k hk)) (fun k hk => rb_set_off (ne _ nb k hk))⟩, ?_, ?_⟩
  · exact rb_set_on.trans esz
  · exact rb_set_on.trans eto
  · exact (rb_set_off (by omega)).trans s0
  · exact (rb_set_off (by omega)).trans t0
/-! turning: x, the child of n on side e, comes up; i is the number of x's inner child -/
def rb_t1 (pa : Nat → Nat) (i n : Nat) : Nat → Nat := if 0 < i then rb_set pa i n else pa
def rb_tr (root : Nat) (pa : Nat → Nat) (n x i : Nat) : Nat := rb_rpr root (rb_t1 pa i n) n x
def rb_tc (ch : Bool → Nat → Nat) (pa : Nat → Nat) (e : Bool) (n x i : Nat) : Bool → Nat → Nat := rb_sc (rb_rpc (rb_sc ch e n i) (rb_t1 pa i n) n x) (!e) x n
def rb_tp (pa : Nat → Nat) (n x i : Nat) : Nat → Nat := rb_set (rb_set (rb_t1 pa i n) x (rb_t1 pa i n n)) n x
theorem rb_t1_off {pa : Nat → Nat} {i n k : Nat} (h : 0 < i → k ≠ i) : rb_t1 pa i n k = pa k := by
  unfold rb_t1
  by_cases z : 0 < i
  · rw [if_pos z]; exact rb_set_off (h z)
  · rw [if_neg z]
theorem rb_t1_on {pa : Nat → Nat} {i n : Nat} (h : 0 < i) : rb_t1 pa i n i = n := by
  unfold rb_t1
  rw [if_pos h]
  exact rb_set_on
theorem rb_perm2 (C : List rb_F) (e : Bool) (n x : Nat) (o i b : rb_T) : (rb_io (rb_plug C (rb_mk e n (rb_mk e x o i) b))).Perm (n :: x :: (rb_io o ++ (rb_io i ++ (rb_io b ++ rb_cn C)))) := by
  refine List.perm_iff_count.mpr (fun a => ?_)
  have h1 := (rb_perm C (rb_mk e n (rb_mk e x o i) b)).count_eq a
  have h2 := (rb_io_mk e n (rb_mk e x o i) b).count_eq a
  have h3 := (rb_io_mk e x o i).count_eq a
  simp only [List.count_append, List.count_cons] at *
  omega
theorem rb_nd5 {n x : Nat} {O I B N : List Nat} (h : (n :: x :: (O ++ (I ++ (B ++ N)))).Nodup) : n ≠ x ∧ (n ∉ O ∧ n ∉ I ∧ n ∉ B ∧ n ∉ N) ∧ (x ∉ O ∧ x ∉ I ∧ x ∉ B ∧ x ∉ N) ∧ (∀ k, k ∈ O → k ∉ I ∧ k ∉ B ∧ k ∉ N) ∧ (∀ k, k ∈ I → k ∉ B ∧ k ∉ N) ∧ (∀ k, k ∈ B → k ∉ N) ∧ I.Nodup ∧ (n :: N).Nodup := by
  simp only [List.nodup_cons, List.nodup_append, List.mem_cons, List.mem_append, not_or] at h
  obtain ⟨⟨h1, h2, h3, h4, h5⟩, ⟨g2, g3, g4, g5⟩, oN, ⟨iN, ⟨bN, nN, hb⟩, hi⟩, ho⟩ := h
  refine ⟨h1, ⟨h2, h3, h4, h5⟩, ⟨g2, g3, g4, g5⟩, fun k hk => ⟨fun z => ho k hk k (Or.inl z) rfl, fun z => ho k hk k (Or.inr (Or.inl z)) rfl, fun z => ho k hk k (Or.inr (Or.inr z)) rfl⟩, fun k hk => ⟨fun z => hi k hk k (Or.inl z) rfl, fun z => hi k hk k (Or.inr z) rfl⟩, fun k hk z => hb k hk k z rfl, iN, List.nodup_cons.mpr ⟨h5, nN⟩⟩
theorem rb_turnS {ch : Bool → Nat → Nat} {pa : Nat → Nat} {root : Nat} {C : List rb_F} {e : Bool} {n x : Nat} {o i b : rb_T} (h : rb_CS ch pa root C n) (ht : rb_TS ch pa (rb_mk e n (rb_mk e x o i) b) (rb_par C)) (nd : (rb_io (rb_plug C (rb_mk e n (rb_mk e x o i) b))).Nodup) :
    rb_CS (rb_tc ch pa e n x (rb_at i)) (rb_tp pa n x (rb_at i)) (rb_tr root pa n x (rb_at i)) C x ∧ rb_TS (rb_tc ch pa e n x (rb_at i)) (rb_tp pa n x (rb_at i)) (rb_mk e x o (rb_mk e n i b)) (rb_par C) ∧ (∀ k, k ∉ rb_io (rb_plug C (rb_mk e n (rb_mk e x o i) b)) → rb_tp pa n x (rb_at i) k = pa k) := by
  have P := rb_perm2 C e n x o i b
  obtain ⟨hnx, ⟨nO, nI', nB, nN⟩, ⟨xO, xI, xB, xN⟩, dO, dI, dB, ndI, ndN⟩ := rb_nd5 (P.nodup_iff.mp nd)
  obtain ⟨t1, t2, t3, t4, t5, t6⟩ := (rb_TS_mk e n _ b _).mp ht
  rw [rb_at_mk] at t3
  obtain ⟨s1, s2, s3, s4, s5, s6⟩ := (rb_TS_mk e x o i n).mp t5
  have ai : ∀ k, k ∉ rb_io i → (0 < rb_at i → k ≠ rb_at i) := fun k hk z y => hk (by rw [y]; exact rb_at_mem (by omega))
  have p1n : rb_t1 pa (rb_at i) n n = rb_par C := by rw [rb_t1_off (ai n nI'), t2]
  have pc : ∀ k, k ∉ rb_cn C → (rb_t1 pa (rb_at i) n n ≠ 0 → k ≠ rb_t1 pa (rb_at i) n n) := by
    intro k hk z y
    rw [p1n] at z y
    exact hk (by rw [y]; exact rb_par_mem z)
  have c1 : rb_CS (rb_sc ch e n (rb_at i)) (rb_t1 pa (rb_at i) n) root C n := by
    refine rb_CS_cg C n h (fun k hk e' => ?_) (fun k hk => rb_t1_off (ai k (fun z => (dI k z).2 hk)))
    exact rb_sc_k (fun z => nN (by rw [← z]; exact hk)) _ _
  have c2 := rb_replace (b := x) c1 p1n (by omega) ndN xN
  have offC : ∀ k, k ≠ x → k ≠ n → k ∉ rb_cn C → ∀ e', rb_tc ch pa e n x (rb_at i) e' k = ch e' k := by
    intro k kx kn kc e'
    have q1 : rb_tc ch pa e n x (rb_at i) e' k = rb_rpc (rb_sc ch e n (rb_at i)) (rb_t1 pa (rb_at i) n) n x e' k := rb_sc_k kx _ _
    rw [q1, rb_rpc_off (pc k kc)]
    exact rb_sc_k kn _ _
  have offP : ∀ k, k ≠ x → k ≠ n → (0 < rb_at i → k ≠ rb_at i) → rb_tp pa n x (rb_at i) k = pa k := by
    intro k kx kn ki
    have q1 : rb_tp pa n x (rb_at i) k = rb_t1 pa (rb_at i) n k := (rb_set_off kn).trans (rb_set_off kx)
    rw [q1, rb_t1_off ki]
  have ne : ∀ (w : List Nat) (m : Nat), m ∉ w → ∀ k, k ∈ w → k ≠ m := fun w m hw k hk z => hw (z ▸ hk)
  refine ⟨?_, (rb_TS_mk e x o _ _).mpr ⟨s1, ?_, ?_, ?_, ?_, (rb_TS_mk e n i b _).mpr ⟨t1, ?_, ?_, ?_, ?_, ?_⟩⟩, ?_⟩
  · refine rb_CS_cg C x c2 (fun k hk e' => ?_) (fun k hk => ?_)
    · exact rb_sc_k (fun z => xN (by rw [← z]; exact hk)) _ _
    · exact rb_set_off (ne _ n nN k hk)
  · show rb_set (rb_set (rb_t1 pa (rb_at i) n) x (rb_t1 pa (rb_at i) n n)) n x x = rb_par C
    rw [rb_set_off (Ne.symm hnx), rb_set_on, p1n]
  · have q1 : rb_tc ch pa e n x (rb_at i) e x = rb_rpc (rb_sc ch e n (rb_at i)) (rb_t1 pa (rb_at i) n) n x e x := rb_sc_m _ _ _ _ _
    rw [q1, rb_rpc_off (pc x xN)]
    exact (rb_sc_k (Ne.symm hnx) _ _).trans s3
  · rw [rb_at_mk]
    exact rb_sc_on _ _ _ _
  · exact rb_TS_cg o x s5 (fun k hk => offC k (ne _ x xO k hk) (ne _ n nO k hk) (dO k hk).2.2) (fun k hk => offP k (ne _ x xO k hk) (ne _ n nO k hk) (ai k (dO k hk).1))
  · exact rb_set_on
  · have q1 : rb_tc ch pa e n x (rb_at i) e n = rb_rpc (rb_sc ch e n (rb_at i)) (rb_t1 pa (rb_at i) n) n x e n := rb_sc_m _ _ _ _ _
    rw [q1, rb_rpc_off (pc n nN)]
    exact rb_sc_on _ _ _ _
  · have q1 : rb_tc ch pa e n x (rb_at i) (!e) n = rb_rpc (rb_sc ch e n (rb_at i)) (rb_t1 pa (rb_at i) n) n x (!e) n := rb_sc_k hnx _ _
    rw [q1, rb_rpc_off (pc n nN)]
    exact (rb_sc_n _ _ _ _ _).trans t4
  · refine rb_TS_re s6 ndI (fun k hk => offC k (ne _ x xI k hk) (ne _ n nI' k hk) (dI k hk).2) (fun k hk ka => offP k (ne _ x xI k hk) (ne _ n nI' k hk) (fun _ => ka)) (fun z => ?_)
    have m := rb_at_mem z
    have q1 : rb_tp pa n x (rb_at i) (rb_at i) = rb_t1 pa (rb_at i) n (rb_at i) := (rb_set_off (ne _ n nI' _ m)).trans (rb_set_off (ne _ x xI _ m))
    rw [q1, rb_t1_on (by omega)]
  · exact rb_TS_cg b n t6 (fun k hk => offC k (ne _ x xB k hk) (ne _ n nB k hk) (dB k hk)) (fun k hk => offP k (ne _ x xB k hk) (ne _ n nB k hk) (ai k (fun z => (dI k z).1 hk)))
  · intro k hk
    rw [P.mem_iff] at hk
    simp only [List.mem_cons, List.mem_append, not_or] at hk
    exact offP k hk.2.1 hk.1 (ai k hk.2.2.2.1)
end
section
/-! the state out of pure functions; short walks -/
def rb_bI (b : Bool) : Int32 := match b with
  | true => 1
  | false => 0
abbrev rb_st (root free : Nat) (cur : Int32) (ch : Bool → Nat → Nat) (pa : Nat → Nat) (rd : Nat → Bool) (key val sz : Nat → Int32) (tot : Nat → Int64) : St1 :=
  (nI root, nI free, cur, fun k => nI (ch false k), fun k => nI (ch true k), fun k => nI (pa k), fun k => rb_bI (rd k), key, val, sz, tot)
theorem rb_cl48 {n : Nat} (h : n ≤ 48) : (nI n).toNatClampNeg = n := nI_clamp (by omega)
theorem rb_in48 {n : Nat} (h : n ≤ 48) : vp_in (nI n) 49 := vp_in_nI (by omega) (by omega)
theorem rb_eq48 {a b : Nat} (ha : a ≤ 48) (hb : b ≤ 48) : (nI a = nI b) = (a = b) := propext (nI_eq (by omega) (by omega))
theorem rb_eq0 {a : Nat} (ha : a ≤ 48) : (nI a = 0) = (a = 0) := propext (nI_eq (b := 0) (by omega) (by omega))
theorem rb_le0 {a : Nat} (ha : a ≤ 48) : (nI a ≤ 0) = (a = 0) := propext ((nI_leI (b := 0) (by omega) (by omega)).trans (by omega))
theorem rb_up1 (f : Nat → Nat) (n v : Nat) : upd (fun k => nI (f k)) n (nI v) = fun k => nI (rb_set f n v k) := by
  funext k
  simp only [upd, rb_set]
  split <;> rfl
theorem rb_upB (f : Nat → Bool) (n : Nat) (v : Bool) : upd (fun k => rb_bI (f k)) n (rb_bI v) = fun k => rb_bI (rb_set f n v k) := by
  funext k
  simp only [upd, rb_set]
  split <;> rfl
theorem rb_bI0 (b : Bool) : (rb_bI b = 0) = (b = false) := by
  cases b
  · exact propext ⟨fun _ => rfl, fun _ => rfl⟩
  · exact propext ⟨fun h => absurd h (by decide), fun h => absurd h (by decide)⟩
theorem rb_set_le {f : Nat → Nat} {n v : Nat} (h : ∀ k, f k ≤ 48) (hv : v ≤ 48) : ∀ k, rb_set f n v k ≤ 48 := by
  intro k
  unfold rb_set
  split
  · exact hv
  · exact h k
theorem rb_sc_le {ch : Bool → Nat → Nat} {e' : Bool} {n v : Nat} (h : ∀ e k, ch e k ≤ 48) (hv : v ≤ 48) : ∀ e k, rb_sc ch e' n v e k ≤ 48 := by
  intro e k
  cases e <;> cases e'
  · exact rb_set_le (h false) hv k
  · exact h false k
  · exact h true k
  · exact rb_set_le (h true) hv k
theorem rb_rpc_le {ch : Bool → Nat → Nat} {pa : Nat → Nat} {n b : Nat} (h : ∀ e k, ch e k ≤ 48) (hb : b ≤ 48) : ∀ e k, rb_rpc ch pa n b e k ≤ 48 := by
  intro e k
  unfold rb_rpc
  split
  · exact h e k
  · exact rb_sc_le h hb e k
theorem rb_t1_le {pa : Nat → Nat} {i n : Nat} (h : ∀ k, pa k ≤ 48) (hn : n ≤ 48) : ∀ k, rb_t1 pa i n k ≤ 48 := by
  intro k
  unfold rb_t1
  split
  · exact rb_set_le h hn k
  · exact h k
theorem rb_tc_le {ch : Bool → Nat → Nat} {pa : Nat → Nat} {e' : Bool} {n x i : Nat} (h : ∀ e k, ch e k ≤ 48) (hn : n ≤ 48) (hx : x ≤ 48) (hi : i ≤ 48) : ∀ e k, rb_tc ch pa e' n x i e k ≤ 48 :=
  rb_sc_le (rb_rpc_le (rb_sc_le h hi) hx) hn
theorem rb_tp_le {pa : Nat → Nat} {n x i : Nat} (h : ∀ k, pa k ≤ 48) (hn : n ≤ 48) (hx : x ≤ 48) : ∀ k, rb_tp pa n x i k ≤ 48 :=
  rb_set_le (rb_set_le (rb_t1_le h hn) (rb_t1_le h hn _)) hx
section
variable {root free : Nat} {cur : Int32} {ch : Bool → Nat → Nat} {pa : Nat → Nat} {rd : Nat → Bool} {key val sz : Nat → Int32} {tot : Nat → Int64}
theorem rb_w_replace {post : St1 → Prop} {n b : Nat} (hn : n ≤ 48) (hb : b ≤ 48) (hc : ∀ e k, ch e k ≤ 48) (hp : ∀ k, pa k ≤ 48)
    (h : post (rb_st (rb_rpr root pa n b) free cur (rb_rpc ch pa n b) (rb_set pa b (pa n)) rd key val sz tot)) : wpX_replace post (rb_st root free cur ch pa rd key val sz tot) (nI n) (nI b) := by
  unfold wpX_replace rb_st
  simp only [rb_in48, rb_cl48, hn, hb, hc, hp, true_and, forall_eq, rb_eq0, rb_eq48, rb_up1]
  refine ⟨fun z => ?_, fun z => ⟨fun y => ?_, fun y => ?_⟩⟩
  · rw [show rb_rpr root pa n b = b from if_pos z, show rb_rpc ch pa n b = ch from if_pos z] at h
    exact h
  · rw [show rb_rpr root pa n b = root from if_neg z, show rb_rpc ch pa n b = rb_sc ch false (pa n) b by unfold rb_rpc; rw [if_neg z, y]; simp] at h
    exact h
  · rw [show rb_rpr root pa n b = root from if_neg z, show rb_rpc ch pa n b = rb_sc ch true (pa n) b by unfold rb_rpc; rw [if_neg z]; simp [y]] at h
    exact h
theorem rb_w_refresh {post : St1 → Prop} {n : Nat} (hn : n ≤ 48) (hc : ∀ e k, ch e k ≤ 48)
    (h : post (rb_st root free cur ch pa rd key val (rb_rs sz ch n) (rb_rt tot val ch n))) : wpX_refresh post (rb_st root free cur ch pa rd key val sz tot) (nI n) := by
  unfold wpX_refresh rb_st
  simp only [rb_in48, rb_cl48, hn, hc, true_and, forall_eq]
  exact h
theorem rb_w_tl40 {post : St1 → Prop} {n x : Nat} {c3 : Bool → Nat → Nat} (e3 : c3 = rb_sc (rb_rpc ch pa n x) false x n) (hn : n ≤ 48) (hx : x ≤ 48) (hc : ∀ e k, ch e k ≤ 48) (hp : ∀ k, pa k ≤ 48)
    (h : post (rb_st (rb_rpr root pa n x) free cur c3 (rb_set (rb_set pa x (pa n)) n x) rd key val (rb_rs (rb_rs sz c3 n) c3 x) (rb_rt (rb_rt tot val c3 n) val c3 x))) :
    wX_turnLeft_40 post (nI n) (nI x) (nI root) (nI free) cur (fun k => nI (ch false k)) (fun k => nI (ch true k)) (fun k => nI (pa k)) (fun k => rb_bI (rd k)) key val sz tot := by
  have hc3 : ∀ e k, c3 e k ≤ 48 := by rw [e3]; exact rb_sc_le (rb_rpc_le hc hx) hn
  unfold wX_turnLeft_40
  refine rb_w_replace (ch := ch) (pa := pa) (rd := rd) hn hx hc hp ?_
  refine ⟨rb_in48 hx, nm_r (e' := fun k => nI (rb_set (rb_rpc ch pa n x false) x n k)) ?_ ⟨rb_in48 hn, nm_r (e' := fun k => nI (rb_set (rb_set pa x (pa n)) n x k)) ?_ ?_⟩⟩
  · rw [rb_cl48 hx]; exact rb_up1 _ _ _
  · rw [rb_cl48 hn]; exact rb_up1 _ _ _
  · subst e3
    exact rb_w_refresh (ch := rb_sc (rb_rpc ch pa n x) false x n) (pa := rb_set (rb_set pa x (pa n)) n x) (rd := rd) hn hc3 (rb_w_refresh (ch := rb_sc (rb_rpc ch pa n x) false x n) (pa := rb_set (rb_set pa x (pa n)) n x) (rd := rd) hx hc3 h)
theorem rb_w_tr40 {post : St1 → Prop} {n x : Nat} {c3 : Bool → Nat → Nat} (e3 : c3 = rb_sc (rb_rpc ch pa n x) true x n) (hn : n ≤ 48) (hx : x ≤ 48) (hc : ∀ e k, ch e k ≤ 48) (hp : ∀ k, pa k ≤ 48)
    (h : post (rb_st (rb_rpr root pa n x) free cur c3 (rb_set (rb_set pa x (pa n)) n x) rd key val (rb_rs (rb_rs sz c3 n) c3 x) (rb_rt (rb_rt tot val c3 n) val c3 x))) :
    wX_turnRight_40 post (nI n) (nI x) (nI root) (nI free) cur (fun k => nI (ch false k)) (fun k => nI (ch true k)) (fun k => nI (pa k)) (fun k => rb_bI (rd k)) key val sz tot := by
  have hc3 : ∀ e k, c3 e k ≤ 48 := by rw [e3]; exact rb_sc_le (rb_rpc_le hc hx) hn
  unfold wX_turnRight_40
  refine rb_w_replace (ch := ch) (pa := pa) (rd := rd) hn hx hc hp ?_
  refine ⟨rb_in48 hx, nm_r (e' := fun k => nI (rb_set (rb_rpc ch pa n x true) x n k)) ?_ ⟨rb_in48 hn, nm_r (e' := fun k => nI (rb_set (rb_set pa x (pa n)) n x k)) ?_ ?_⟩⟩
  · rw [rb_cl48 hx]; exact rb_up1 _ _ _
  · rw [rb_cl48 hn]; exact rb_up1 _ _ _
  · subst e3
    exact rb_w_refresh (ch := rb_sc (rb_rpc ch pa n x) true x n) (pa := rb_set (rb_set pa x (pa n)) n x) (rd := rd) hn hc3 (rb_w_refresh (ch := rb_sc (rb_rpc ch pa n x) true x n) (pa := rb_set (rb_set pa x (pa n)) n x) (rd := rd) hx hc3 h)
theorem rb_w_turn {post : St1 → Prop} {e : Bool} {n x i : Nat} {c3 : Bool → Nat → Nat} (e3 : c3 = rb_tc ch pa e n x i) (hn : n ≤ 48) (hc : ∀ e k, ch e k ≤ 48) (hp : ∀ k, pa k ≤ 48) (ex : ch e n = x) (ei : ch (!e) x = i)
    (h : post (rb_st (rb_tr root pa n x i) free cur c3 (rb_tp pa n x i) rd key val (rb_rs (rb_rs sz c3 n) c3 x) (rb_rt (rb_rt tot val c3 n) val c3 x))) :
    wpX_turn post (rb_st root free cur ch pa rd key val sz tot) (nI n) (rb_bI e) := by
  have hx : x ≤ 48 := by rw [← ex]; exact hc _ _
  have hi : i ≤ 48 := by rw [← ei]; exact hc _ _
  unfold wpX_turn
  cases e with
  | true =>
    have ei' : ch false x = i := ei
    refine br_f (by decide) ?_
    unfold wpX_turnLeft
    refine ⟨rb_in48 hn, nm_r (e' := nI x) (by simp only [rb_cl48 hn, ex]) ⟨rb_in48 hx, rb_in48 hn, nm_r (e' := fun k => nI (rb_set (ch true) n i k)) (by simp only [rb_cl48 hn, rb_cl48 hx, ei', rb_up1]) ⟨rb_in48 hx, pk_le i 0 (fun z => ?_) (fun z => ⟨rb_in48 hx, by simp only [rb_cl48 hx, ei', rb_in48 hi], nm_r (e' := fun k => nI (rb_set pa i n k)) (by simp only [rb_cl48 hx, ei', rb_cl48 hi, rb_up1]) ?_⟩) (hx := by simp only [rb_cl48 hx, ei'])⟩⟩⟩
    · have q : rb_t1 pa i n = pa := if_neg (by omega)
      refine rb_w_tl40 (ch := rb_sc ch true n i) (pa := pa) (rd := rd) (c3 := c3) (by rw [e3]; unfold rb_tc; rw [q]; rfl) hn hx (rb_sc_le hc hi) hp ?_
      unfold rb_tr rb_tp at h
      rw [q] at h
      exact h
    · have q : rb_t1 pa i n = rb_set pa i n := if_pos z
      refine rb_w_tl40 (ch := rb_sc ch true n i) (pa := rb_set pa i n) (rd := rd) (c3 := c3) (by rw [e3]; unfold rb_tc; rw [q]; rfl) hn hx (rb_sc_le hc hi) (rb_set_le hp hn) ?_
      unfold rb_tr rb_tp at h
      rw [q] at h
      exact h
  | false =>
    have ei' : ch true x = i := ei
    refine br_t (by rfl) ?_
    unfold wpX_turnRight
    refine ⟨rb_in48 hn, nm_r (e' := nI x) (by simp only [rb_cl48 hn, ex]) ⟨rb_in48 hx, rb_in48 hn, nm_r (e' := fun k => nI (rb_set (ch false) n i k)) (by simp only [rb_cl48 hn, rb_cl48 hx, ei', rb_up1]) ⟨rb_in48 hx, pk_le i 0 (fun z => ?_) (fun z => ⟨rb_in48 hx, by simp only [rb_cl48 hx, ei', rb_in48 hi], nm_r (e' := fun k => nI (rb_set pa i n k)) (by simp only [rb_cl48 hx, ei', rb_cl48 hi, rb_up1]) ?_⟩) (hx := by simp only [rb_cl48 hx, ei'])⟩⟩⟩
    · have q : rb_t1 pa i n = pa := if_neg (by omega)
      refine rb_w_tr40 (ch := rb_sc ch false n i) (pa := pa) (rd := rd) (c3 := c3) (by rw [e3]; unfold rb_tc; rw [q]; rfl) hn hx (rb_sc_le hc hi) hp ?_
      unfold rb_tr rb_tp at h
      rw [q] at h
      exact h
    · have q : rb_t1 pa i n = rb_set pa i n := if_pos z
      refine rb_w_tr40 (ch := rb_sc ch false n i) (pa := rb_set pa i n) (rd := rd) (c3 := c3) (by rw [e3]; unfold rb_tc; rw [q]; rfl) hn hx (rb_sc_le hc hi) (rb_set_le hp hn) ?_
      unfold rb_tr rb_tp at h
      rw [q] at h
      exact h
end
end
section
/-! the whole tree: V pointers, W pointers and sizes; turn and refreshUp over it -/
def rb_V (root : Nat) (ch : Bool → Nat → Nat) (pa : Nat → Nat) (T : rb_T) : Prop := root = rb_at T ∧ rb_TS ch pa T 0 ∧ (rb_io T).Nodup ∧ (∀ k, k ∈ rb_io T → k ≤ 48) ∧ (∀ e k, ch e k ≤ 48) ∧ (∀ k, pa k ≤ 48)
def rb_W (root : Nat) (ch : Bool → Nat → Nat) (pa : Nat → Nat) (val sz : Nat → Int32) (tot : Nat → Int64) (T : rb_T) : Prop := rb_V root ch pa T ∧ rb_TZ val sz tot T ∧ sz 0 = 0 ∧ tot 0 = 0
section
variable {root free : Nat} {cur : Int32} {ch : Bool → Nat → Nat} {pa : Nat → Nat} {rd : Nat → Bool} {key val sz : Nat → Int32} {tot : Nat → Int64}
theorem rb_TS_pos {t : rb_T} : ∀ {par : Nat}, rb_TS ch pa t par → ∀ k, k ∈ rb_io t → 0 < k := by
  induction t with
  | leaf u => intro par _ k hk; simp [rb_io] at hk
  | branch n l r ihl ihr =>
    intro par h k hk
    simp only [rb_io, List.mem_append, List.mem_cons] at hk
    rcases hk with hk | hk | hk
    · exact ihl h.2.2.2.2.1 k hk
    · rw [hk]; exact h.1
    · exact ihr h.2.2.2.2.2 k hk
theorem rb_turn {post : St1 → Prop} {C : List rb_F} {e : Bool} {n x : Nat} {o i b : rb_T} (w : rb_W root ch pa val sz tot (rb_plug C (rb_mk e n (rb_mk e x o i) b)))
    (H : ∀ root' ch' pa' sz' tot', rb_W root' ch' pa' val sz' tot' (rb_plug C (rb_mk e x o (rb_mk e n i b))) → (∀ k, k ∉ rb_io (rb_plug C (rb_mk e n (rb_mk e x o i) b)) → pa' k = pa k) → post (rb_st root' free cur ch' pa' rd key val sz' tot')) :
    wpX_turn post (rb_st root free cur ch pa rd key val sz tot) (nI n) (rb_bI e) := by
  obtain ⟨⟨w1, w2, w3, w4, w8, w9⟩, w5, w6, w7⟩ := w
  obtain ⟨cs, ts⟩ := (rb_TS_plug C _).mp ⟨w1, w2⟩
  rw [rb_at_mk] at cs
  obtain ⟨c', t', off⟩ := rb_turnS cs ts w3
  have P := rb_perm2 C e n x o i b
  obtain ⟨hnx, ⟨nO, nI', nB, nN⟩, ⟨xO, xI, xB, xN⟩, dO, dI, dB, ndI, ndN⟩ := rb_nd5 (P.nodup_iff.mp w3)
  have hn : n ≤ 48 := w4 n (P.mem_iff.mpr (by simp))
  have hx : x ≤ 48 := w4 x (P.mem_iff.mpr (by simp))
  obtain ⟨t1, t2, t3, t4, t5, t6⟩ := (rb_TS_mk e n _ b _).mp ts
  rw [rb_at_mk] at t3
  obtain ⟨s1, s2, s3, s4, s5, s6⟩ := (rb_TS_mk e x o i n).mp t5
  obtain ⟨z1, z2⟩ := (rb_TZ_plug C _).mp w5
  obtain ⟨_, _, z3, z4⟩ := (rb_TZ_mk e n _ b).mp z1
  obtain ⟨_, _, z5, z6⟩ := (rb_TZ_mk e x o i).mp z3
  obtain ⟨_, _, _, _, _, u1⟩ := (rb_TS_mk e x o _ _).mp t'
  have ne : ∀ (w : List Nat) (m : Nat), m ∉ w → ∀ k, k ∈ w → k ≠ m := fun w m hw k hk z => hw (z ▸ hk)
  obtain ⟨r1, r2, r3⟩ := rb_refresh u1 z6 z4 nI' nB w6 w7
  have xM : x ∉ rb_io (rb_mk e n i b) := by
    rw [(rb_io_mk e n i b).mem_iff]
    simp only [List.mem_cons, List.mem_append, not_or]
    exact ⟨Ne.symm hnx, xI, xB⟩
  obtain ⟨r4, r5, r6⟩ := rb_refresh t' (rb_TZ_cg o z5 (fun _ _ => rfl) (fun k hk => rb_set_off (ne _ n nO k hk)) (fun k hk => rb_set_off (ne _ n nO k hk))) r1 xO xM r2 r3
  have eio := rb_io_turn e n x o i b
  have eip := rb_io_plug_cg (C := C) eio
  have hi48 : rb_at i ≤ 48 := by rw [← s4]; exact w8 _ _
  obtain ⟨v1, v2⟩ := (rb_TS_plug C (rb_mk e x o (rb_mk e n i b))).mpr ⟨by rw [rb_at_mk]; exact c', t'⟩
  refine rb_w_turn rfl hn w8 w9 t3 s4 (H _ _ _ _ _ ⟨⟨v1, v2, by rw [eip]; exact w3, by rw [eip]; exact w4, rb_tc_le w8 hn hx hi48, rb_tp_le w9 hn hx⟩, (rb_TZ_plug C _).mpr ⟨r4, ?_⟩, r5, r6⟩ off)
  rw [eio]
  refine rb_CZ_cg C _ _ z2 (fun k hk => ?_) (fun k hk => ?_)
  · exact (rb_set_off (ne _ x xN k hk)).trans (rb_set_off (ne _ n nN k hk))
  · exact (rb_set_off (ne _ x xN k hk)).trans (rb_set_off (ne _ n nN k hk))
theorem rb_rup {post : St1 → Prop} : ∀ (C : List rb_F) (t : rb_T) (sz : Nat → Int32) (tot : Nat → Int64) (step f : Nat), rb_V root ch pa (rb_plug C t) → rb_TZ val sz tot t → rb_DZ val sz tot C → sz 0 = 0 → tot 0 = 0 → step + C.length ≤ 48 → C.length < f →
    (∀ sz' tot', rb_W root ch pa val sz' tot' (rb_plug C t) → post (rb_st root free cur ch pa rd key val sz' tot')) →
    wX_refreshUp_4 post f (nI (rb_par C)) (nI step) (nI root) (nI free) cur (fun k => nI (ch false k)) (fun k => nI (ch true k)) (fun k => nI (pa k)) (fun k => rb_bI (rd k)) key val sz tot := by
  intro C
  induction C with
  | nil =>
    intro t sz tot step f v z d s0 t0 hs hf H
    obtain ⟨f, rfl⟩ : ∃ g, f = g + 1 := ⟨f - 1, by simp at hf; omega⟩
    have Q := H sz tot ⟨v, z, s0, t0⟩
    exact br_c (fun _ => Q) (fun _ => br_t (by decide) Q)
  | cons fr C ih =>
    obtain ⟨dd, p, s⟩ := fr
    intro t sz tot step f v z d s0 t0 hs hf H
    simp only [List.length_cons] at hs hf
    obtain ⟨f, rfl⟩ : ∃ g, f = g + 1 := ⟨f - 1, by omega⟩
    have v' : rb_V root ch pa (rb_plug C (rb_mk dd p t s)) := v
    obtain ⟨v1, v2, v3, v4, v5, v6⟩ := v'
    obtain ⟨cs, ts⟩ := (rb_TS_plug C _).mp ⟨v1, v2⟩
    obtain ⟨a1, a2, a3, a4, a5, a6⟩ := (rb_TS_mk dd p t s _).mp ts
    have nd := (((rb_io_mk dd p t s).append_right (rb_cn C)).nodup_iff.mp (rb_nd v3))
    simp only [List.cons_append, List.append_assoc, List.nodup_cons, List.mem_append, not_or] at nd
    obtain ⟨⟨n1, n2, n3⟩, _⟩ := nd
    have hp : p ≤ 48 := v4 p ((rb_perm C _).mem_iff.mpr (List.mem_append_left _ ((rb_io_mk dd p t s).mem_iff.mpr (by simp))))
    have ne : ∀ (w : List Nat) (m : Nat), m ∉ w → ∀ k, k ∈ w → k ≠ m := fun w m hw k hk z => hw (z ▸ hk)
    obtain ⟨r1, r2, r3⟩ := rb_refresh ts z d.1 n1 n2 s0 t0
    refine br_f (nI_ge (b := 48) (by omega) (by omega)) (br_f (nI_nle a1 (show p < 2 ^ 31 by omega)) (rb_w_refresh (ch := ch) (pa := pa) (rd := rd) hp v5 ⟨rb_in48 hp, nm_r (e' := nI (rb_par C)) (by rw [rb_cl48 (show rb_par ((dd, p, s) :: C) ≤ 48 from hp)]; exact congrArg nI a2) (nm_r (e' := nI (step + 1)) (nI_1 step) ?_)⟩))
    exact ih _ _ _ _ _ v r1 (rb_DZ_cg C d.2 (fun _ _ => rfl) (fun k hk => rb_set_off (ne _ p n3 k hk)) (fun k hk => rb_set_off (ne _ p n3 k hk))) r2 r3 (by omega) (by omega) H
theorem rb_lenN : ∀ (N : Nat) (w : List Nat), w.Nodup → (∀ k, k ∈ w → 0 < k ∧ k ≤ N) → w.length ≤ N := by
  intro N
  induction N with
  | zero =>
    intro w _ h
    cases w with
    | nil => simp
    | cons x w => have := h x (by simp); omega
  | succ N ih =>
    intro w nd h
    by_cases m : N + 1 ∈ w
    · have h1 := ih (w.erase (N + 1)) (nd.erase _) (fun k hk => by
        have hk' := (List.Nodup.mem_erase_iff nd).mp hk
        have := h k hk'.2
        have := hk'.1
        omega)
      rw [List.length_erase_of_mem m] at h1
      omega
    · have h1 := ih w nd (fun k hk => by
        have := h k hk
        have : k ≠ N + 1 := fun z => m (z ▸ hk)
        omega)
      omega
theorem rb_len48 {w : List Nat} (nd : w.Nodup) (h : ∀ k, k ∈ w → k ≤ 48) (h0 : ∀ k, k ∈ w → 0 < k) : w.length ≤ 48 := rb_lenN 48 w nd (fun k hk => ⟨h0 k hk, h k hk⟩)
theorem rb_Clen {C : List rb_F} {t : rb_T} (v : rb_V root ch pa (rb_plug C t)) : (rb_io t).length + C.length ≤ 48 := by
  obtain ⟨v1, v2, v3, v4, v5, v6⟩ := v
  have h := rb_len48 v3 v4 (rb_TS_pos v2)
  have h2 := (rb_perm C t).length_eq
  have h3 := rb_cn_len C
  simp only [List.length_append] at h2
  omega
theorem rb_refreshUp {post : St1 → Prop} {C : List rb_F} {t : rb_T} (v : rb_V root ch pa (rb_plug C t)) (z : rb_TZ val sz tot t) (d : rb_DZ val sz tot C) (s0 : sz 0 = 0) (t0 : tot 0 = 0)
    (H : ∀ sz' tot', rb_W root ch pa val sz' tot' (rb_plug C t) → post (rb_st root free cur ch pa rd key val sz' tot')) :
    wpX_refreshUp post (rb_st root free cur ch pa rd key val sz tot) (nI (rb_par C)) :=
  ⟨49, rb_rup C t sz tot 0 49 v z d s0 t0 (by have := rb_Clen v; omega) (by have := rb_Clen v; omega) H⟩
end
end
section
/-! colours: black height h; a context that wants a hole of black height h (c: the hole's colour) -/
def rb_TB (rd : Nat → Bool) : rb_T → Nat → Prop
  | .leaf _, h => h = 0
  | .branch n l r, h => (rd n = true ∧ rd (rb_at l) = false ∧ rd (rb_at r) = false ∧ rb_TB rd l h ∧ rb_TB rd r h) ∨ (rd n = false ∧ ∃ k, h = k + 1 ∧ rb_TB rd l k ∧ rb_TB rd r k)
def rb_CB (rd : Nat → Bool) : List rb_F → Bool → Nat → Prop
  | [], c, _ => c = false
  | (_, p, s) :: C, c, h => (rd p = true ∧ c = false ∧ rd (rb_at s) = false ∧ rb_TB rd s h ∧ rb_CB rd C true h) ∨ (rd p = false ∧ rb_TB rd s h ∧ rb_CB rd C false (h + 1))
section
variable {rd rd' : Nat → Bool}
theorem rb_TB_mk (e : Bool) (n : Nat) (a b : rb_T) (h : Nat) : rb_TB rd (rb_mk e n a b) h ↔ (rd n = true ∧ rd (rb_at a) = false ∧ rd (rb_at b) = false ∧ rb_TB rd a h ∧ rb_TB rd b h) ∨ (rd n = false ∧ ∃ k, h = k + 1 ∧ rb_TB rd a k ∧ rb_TB rd b k) := by
  cases e
  · exact Iff.rfl
  · constructor
    · rintro (⟨h1, h2, h3, h4, h5⟩ | ⟨h1, k, h2, h3, h4⟩)
      · exact Or.inl ⟨h1, h3, h2, h5, h4⟩
      · exact Or.inr ⟨h1, k, h2, h4, h3⟩
    · rintro (⟨h1, h2, h3, h4, h5⟩ | ⟨h1, k, h2, h3, h4⟩)
      · exact Or.inl ⟨h1, h3, h2, h5, h4⟩
      · exact Or.inr ⟨h1, k, h2, h4, h3⟩
theorem rb_TB_red {e : Bool} {n : Nat} {a b : rb_T} {h : Nat} (hr : rd n = true) : rb_TB rd (rb_mk e n a b) h ↔ rd (rb_at a) = false ∧ rd (rb_at b) = false ∧ rb_TB rd a h ∧ rb_TB rd b h := by
  rw [rb_TB_mk]
  simp [hr]
theorem rb_TB_blk {e : Bool} {n : Nat} {a b : rb_T} {h : Nat} (hr : rd n = false) : rb_TB rd (rb_mk e n a b) (h + 1) ↔ rb_TB rd a h ∧ rb_TB rd b h := by
  rw [rb_TB_mk]
  simp only [hr, Bool.false_eq_true, false_and, false_or, true_and]
  constructor
  · rintro ⟨k, h1, h2⟩
    have : h = k := by omega
    rw [this]
    exact h2
  · intro h2
    exact ⟨h, rfl, h2⟩
theorem rb_TB_cg : ∀ (t : rb_T) (h : Nat), rb_TB rd t h → (∀ k, k ∈ rb_io t → rd' k = rd k) → rd' 0 = rd 0 → rb_TB rd' t h := by
  intro t
  induction t with
  | leaf u => intro h h1 _ _; exact h1
  | branch n l r ihl ihr =>
    intro h h1 hk h0
    have m : rd' n = rd n := hk n (by simp [rb_io])
    have ml : ∀ k, k ∈ rb_io l → rd' k = rd k := fun k z => hk k (by simp [rb_io, z])
    have mr : ∀ k, k ∈ rb_io r → rd' k = rd k := fun k z => hk k (by simp [rb_io, z])
    have al : rd' (rb_at l) = rd (rb_at l) := by
      by_cases z : rb_at l = 0
      · rw [z, h0]
      · exact ml _ (rb_at_mem z)
    have ar : rd' (rb_at r) = rd (rb_at r) := by
      by_cases z : rb_at r = 0
      · rw [z, h0]
      · exact mr _ (rb_at_mem z)
    rcases h1 with ⟨h1, h2, h3, h4, h5⟩ | ⟨h1, k, h2, h3, h4⟩
    · exact Or.inl ⟨by rw [m, h1], by rw [al, h2], by rw [ar, h3], ihl h h4 ml h0, ihr h h5 mr h0⟩
    · exact Or.inr ⟨by rw [m, h1], k, h2, ihl k h3 ml h0, ihr k h4 mr h0⟩
theorem rb_CB_cg : ∀ (C : List rb_F) (c : Bool) (h : Nat), rb_CB rd C c h → (∀ k, k ∈ rb_cn C → rd' k = rd k) → rd' 0 = rd 0 → rb_CB rd' C c h := by
  intro C
  induction C with
  | nil => intro c h h1 _ _; exact h1
  | cons f C ih =>
    obtain ⟨d, p, s⟩ := f
    intro c h h1 hk h0
    have m : rd' p = rd p := hk p (by simp [rb_cn])
    have ms : ∀ k, k ∈ rb_io s → rd' k = rd k := fun k z => hk k (by simp [rb_cn, z])
    have mc : ∀ k, k ∈ rb_cn C → rd' k = rd k := fun k z => hk k (by simp [rb_cn, z])
    have al : rd' (rb_at s) = rd (rb_at s) := by
      by_cases z : rb_at s = 0
      · rw [z, h0]
      · exact ms _ (rb_at_mem z)
    rcases h1 with ⟨h1, h2, h3, h4, h5⟩ | ⟨h1, h2, h3⟩
    · exact Or.inl ⟨by rw [m, h1], h2, by rw [al, h3], rb_TB_cg s h h4 ms h0, ih _ _ h5 mc h0⟩
    · exact Or.inr ⟨by rw [m, h1], rb_TB_cg s h h2 ms h0, ih _ _ h3 mc h0⟩
theorem rb_CB_f : ∀ {C : List rb_F} {c : Bool} {h : Nat}, rb_CB rd C c h → rb_CB rd C false h := by
  intro C c h h1
  cases C with
  | nil => rfl
  | cons f C =>
    obtain ⟨d, p, s⟩ := f
    rcases h1 with ⟨h1, h2, h3, h4, h5⟩ | ⟨h1, h2, h3⟩
    · exact Or.inl ⟨h1, rfl, h3, h4, h5⟩
    · exact Or.inr ⟨h1, h2, h3⟩
theorem rb_TB_plug : ∀ (C : List rb_F) (t : rb_T), (∃ H, rb_TB rd (rb_plug C t) H ∧ rd (rb_at (rb_plug C t)) = false) ↔ (∃ h, rb_TB rd t h ∧ rb_CB rd C (rd (rb_at t)) h) := by
  intro C
  induction C with
  | nil => intro t; exact Iff.rfl
  | cons f C ih =>
    obtain ⟨d, p, s⟩ := f
    intro t
    refine (ih (rb_mk d p t s)).trans ?_
    rw [rb_at_mk]
    constructor
    · rintro ⟨h, h1, h2⟩
      rcases (rb_TB_mk d p t s h).mp h1 with ⟨r1, r2, r3, r4, r5⟩ | ⟨r1, k, r2, r3, r4⟩
      · exact ⟨h, r4, Or.inl ⟨r1, r2, r3, r5, by rw [r1] at h2; exact h2⟩⟩
      · refine ⟨k, r3, Or.inr ⟨r1, r4, ?_⟩⟩
        rw [r1, r2] at h2
        exact h2
    · rintro ⟨h, h1, ⟨r1, r2, r3, r4, r5⟩ | ⟨r1, r2, r3⟩⟩
      · exact ⟨h, (rb_TB_mk d p t s h).mpr (Or.inl ⟨r1, r2, r3, h1, r4⟩), by rw [r1]; exact r5⟩
      · exact ⟨h + 1, (rb_TB_mk d p t s (h + 1)).mpr (Or.inr ⟨r1, h, rfl, h1, r2⟩), by rw [r1]; exact r3⟩
/-- a tree of black height at least one has a node -/
theorem rb_TB_pos {t : rb_T} {h : Nat} (h1 : rb_TB rd t (h + 1)) (f : Bool) : ∃ o a b, t = rb_mk f o a b := by
  cases t with
  | leaf u => exact absurd h1 (Nat.succ_ne_zero h)
  | branch n l r =>
    cases f
    · exact ⟨n, l, r, rfl⟩
    · exact ⟨n, r, l, rfl⟩
/-- a tree with a red top has a node -/
theorem rb_red_pos {t : rb_T} (h0 : rd 0 = false) (h1 : rd (rb_at t) = true) (f : Bool) : ∃ o a b, t = rb_mk f o a b := by
  cases t with
  | leaf u => rw [show rb_at (.leaf u) = 0 from rfl, h0] at h1; exact absurd h1 (by decide)
  | branch n l r =>
    cases f
    · exact ⟨n, l, r, rfl⟩
    · exact ⟨n, r, l, rfl⟩
end
end
section
/-! settleAdded -/
def rb_OK (rd : Nat → Bool) (T : rb_T) : Prop := ∃ H, rb_TB rd T H ∧ rd (rb_at T) = false
theorem rb_set_0 {rd : Nat → Bool} {n : Nat} {v : Bool} (h0 : rd 0 = false) (hn : n ≠ 0 ∨ v = false) : rb_set rd n v 0 = false := by
  unfold rb_set
  split
  · rcases hn with z | z
    · omega
    · exact z
  · exact h0
theorem rb_set_id {rd : Nat → Bool} {n : Nat} {v : Bool} (h : rd n = v) : rb_set rd n v = rd := by
  funext k
  unfold rb_set
  split
  · rename_i z; rw [z, h]
  · rfl
theorem rb_TB_blacken {rd : Nat → Bool} {t : rb_T} {h : Nat} (h0 : rd 0 = false) (hr : rd (rb_at t) = true) (nd : (rb_io t).Nodup) (hb : rb_TB rd t h) : rb_TB (rb_set rd (rb_at t) false) t (h + 1) := by
  cases t with
  | leaf u => rw [show rb_at (.leaf u) = 0 from rfl, h0] at hr; exact absurd hr (by decide)
  | branch n l r =>
    have hr' : rd n = true := hr
    have z0 : rb_set rd n false 0 = rd 0 := by rw [h0]; exact rb_set_0 h0 (Or.inr rfl)
    have nl : n ∉ rb_io l ∧ n ∉ rb_io r := by
      simp only [rb_io, List.nodup_append, List.nodup_cons] at nd
      exact ⟨fun z => nd.2.2 n z n (by simp) rfl, nd.2.1.1⟩
    rcases hb with ⟨h1, h2, h3, h4, h5⟩ | ⟨h1, _⟩
    · exact Or.inr ⟨rb_set_on, h, rfl, rb_TB_cg l h h4 (fun k hk => rb_set_off (fun (z : k = n) => nl.1 (z ▸ hk))) z0, rb_TB_cg r h h5 (fun k hk => rb_set_off (fun (z : k = n) => nl.2 (z ▸ hk))) z0⟩
    · rw [h1] at hr'; exact absurd hr' (by decide)
theorem rb_perm3 (C : List rb_F) (d c e : Bool) (g p n : Nat) (a b s u : rb_T) : (rb_io (rb_plug C (rb_mk d g (rb_mk c p (rb_mk e n a b) s) u))).Perm (g :: p :: n :: (rb_io a ++ (rb_io b ++ (rb_io s ++ (rb_io u ++ rb_cn C))))) := by
  refine List.perm_iff_count.mpr (fun x => ?_)
  have h1 := (rb_perm C (rb_mk d g (rb_mk c p (rb_mk e n a b) s) u)).count_eq x
  have h2 := (rb_io_mk d g (rb_mk c p (rb_mk e n a b) s) u).count_eq x
  have h3 := (rb_io_mk c p (rb_mk e n a b) s).count_eq x
  have h4 := (rb_io_mk e n a b).count_eq x
  simp only [List.count_append, List.count_cons] at *
  omega
section
variable {root free : Nat} {cur : Int32} {ch : Bool → Nat → Nat} {pa : Nat → Nat} {rd : Nat → Bool} {key val sz : Nat → Int32} {tot : Nat → Int64}
theorem rb_sa_exit {post : St1 → Prop} {n step f : Nat} (hn : n ≤ 48) (hr : root ≤ 48) (hp : ∀ k, pa k ≤ 48) (hb : rd (pa n) = false) (hf : 0 < f)
    (h : post (rb_st root free cur ch pa (rb_set rd root false) key val sz tot)) :
    wX_settleAdded_4 post f (nI n) (nI step) (nI root) (nI free) cur (fun k => nI (ch false k)) (fun k => nI (ch true k)) (fun k => nI (pa k)) (fun k => rb_bI (rd k)) key val sz tot := by
  obtain ⟨f, rfl⟩ : ∃ g, f = g + 1 := ⟨f - 1, by omega⟩
  have E : upd (fun k => rb_bI (rd k)) (nI root).toNatClampNeg 0 = fun k => rb_bI (rb_set rd root false k) := by
    rw [rb_cl48 hr]; exact rb_upB rd root false
  refine br_c (fun _ => ⟨rb_in48 hr, nm_r E h⟩) (fun _ => ⟨rb_in48 hn, ?_, br_t ?_ ⟨rb_in48 hr, nm_r E h⟩⟩)
  · simp only [rb_cl48 hn]; exact rb_in48 (hp n)
  · simp only [rb_cl48 hn, rb_cl48 (hp n), hb]; rfl
theorem rb_w_sa82 {post : St1 → Prop} {d : Bool} {n p g step f : Nat} (hs : step < 48) (hn : n ≤ 48) (hp : ∀ k, pa k ≤ 48) (hc : ∀ e k, ch e k ≤ 48) (e1 : pa n = p) (e2 : pa p = g) (hb : rd p = true) (hd : ch false g = p ↔ d = false)
    (h : wX_settleAdded_82 post (wX_settleAdded_4 post f) (nI n) (nI step) (nI p) (nI g) (rb_bI (!d)) (nI (ch (!d) g)) (nI root) (nI free) cur (fun k => nI (ch false k)) (fun k => nI (ch true k)) (fun k => nI (pa k)) (fun k => rb_bI (rd k)) key val sz tot) :
    wX_settleAdded_4 post (f + 1) (nI n) (nI step) (nI root) (nI free) cur (fun k => nI (ch false k)) (fun k => nI (ch true k)) (fun k => nI (pa k)) (fun k => rb_bI (rd k)) key val sz tot := by
  have p48 : p ≤ 48 := by rw [← e1]; exact hp n
  have g48 : g ≤ 48 := by rw [← e2]; exact hp p
  refine br_f (nI_ge (b := 48) (by omega) (by omega)) ⟨rb_in48 hn, by simp only [rb_cl48 hn]; exact rb_in48 (hp n), br_f (by simp only [rb_cl48 hn, e1, rb_cl48 p48, hb]; decide) ⟨rb_in48 hn, nm_r (e' := nI p) (by simp only [rb_cl48 hn, e1]) ⟨rb_in48 p48, nm_r (e' := nI g) (by simp only [rb_cl48 p48, e2]) ⟨rb_in48 g48, ?_⟩⟩⟩⟩
  cases d with
  | false =>
    refine br_t (by simp only [rb_cl48 g48]; rw [hd.mpr rfl]) ?_
    unfold wX_settleAdded_58
    refine br_f (by decide) ⟨rb_in48 g48, ?_⟩
    rw [rb_cl48 g48]
    exact h
  | true =>
    refine br_f (by simp only [rb_cl48 g48]; rw [rb_eq48 (hc _ _) p48, hd]; decide) ?_
    unfold wX_settleAdded_58
    refine br_t (by decide) ⟨rb_in48 g48, ?_⟩
    rw [rb_cl48 g48]
    exact h
theorem rb_w_str {post : Int32 → St1 → Prop} {d c : Bool} {n p : Nat} (hn : n ≤ 48) (hp : p ≤ 48) (hc : ∀ e k, ch e k ≤ 48) (hk : ch true p = n ↔ c = true)
    (h1 : c = d → post (nI n) (rb_st root free cur ch pa rd key val sz tot))
    (h2 : c = (!d) → wpX_turn (fun u => match u with | (v1, v2, v3, v4, v5, v6, v7, v8, v9, v10, v11) => post (nI p) (v1, v2, v3, v4, v5, v6, v7, v8, v9, v10, v11)) (rb_st root free cur ch pa rd key val sz tot) (nI p) (rb_bI (!d))) :
    wpX_straighten post (rb_st root free cur ch pa rd key val sz tot) (nI n) (nI p) (rb_bI (!d)) := by
  unfold wpX_straighten
  refine ⟨rb_in48 hp, ?_⟩
  simp only [rb_cl48 hp, rb_eq48 (hc true p) hn, hk]
  cases c with
  | true =>
    refine br_t rfl ?_
    unfold wX_straighten_16
    cases d with
    | true =>
      refine br_f (by decide) ?_
      unfold wX_straighten_24
      exact br_t rfl (h1 rfl)
    | false =>
      refine br_t (by decide) ?_
      unfold wX_straighten_24
      exact br_f (by decide) (h2 rfl)
  | false =>
    refine br_f (by decide) ?_
    unfold wX_straighten_16
    cases d with
    | true =>
      refine br_t (by decide) ?_
      unfold wX_straighten_24
      exact br_f (by decide) (h2 rfl)
    | false =>
      refine br_f (by decide) ?_
      unfold wX_straighten_24
      exact br_t rfl (h1 rfl)
theorem rb_w_sat {post : St1 → Prop} {d : Bool} {r q g step f : Nat} (hr : r ≤ 48) (hq : q ≤ 48) (hg : g ≤ 48) (eq : pa r = q)
    (h : wpX_turn (fun u => match u with | (v1, v2, v3, v4, v5, v6, v7, v8, v9, v10, v11) => (∀ x3 : Int32, x3 = nI step + 1 → wX_settleAdded_4 post f (nI r) x3 v1 v2 v3 v4 v5 v6 v7 v8 v9 v10 v11)) (rb_st root free cur ch pa (rb_set (rb_set rd q false) g true) key val sz tot) (nI g) (rb_bI d)) :
    vp_in (nI r) 49 ∧ (vp_in (nI (pa (nI r).toNatClampNeg)) 49 ∧ ∀ w1 : Nat → Int32, w1 = upd (fun k => rb_bI (rd k)) (nI (pa (nI r).toNatClampNeg)).toNatClampNeg 0 → (vp_in (nI g) 49 ∧ ∀ w2 : Nat → Int32, w2 = upd w1 (nI g).toNatClampNeg 1 → ((rb_bI (!d) = 0 → wX_settleAdded_167 post (wX_settleAdded_4 post f) (nI r) (nI step) 1 (nI g) (nI root) (nI free) cur (fun k => nI (ch false k)) (fun k => nI (ch true k)) (fun k => nI (pa k)) w2 key val sz tot) ∧ (¬ rb_bI (!d) = 0 → wX_settleAdded_167 post (wX_settleAdded_4 post f) (nI r) (nI step) 0 (nI g) (nI root) (nI free) cur (fun k => nI (ch false k)) (fun k => nI (ch true k)) (fun k => nI (pa k)) w2 key val sz tot)))) := by
  rw [rb_cl48 hr, eq, rb_cl48 hq, rb_cl48 hg]
  refine ⟨rb_in48 hr, rb_in48 hq, nm_r (rb_upB rd q false) ⟨rb_in48 hg, nm_r (rb_upB (rb_set rd q false) g true) ?_⟩⟩
  cases d with
  | true => exact br_t rfl h
  | false => exact br_f (by decide) h
theorem rb_mk_to {e c : Bool} {n : Nat} {a b : rb_T} {h : Nat} (ha : rd (rb_at a) = false) (hb : rd (rb_at b) = false) (ta : rb_TB rd a h) (tb : rb_TB rd b h) : ∃ a' b', rb_mk e n a b = rb_mk c n a' b' ∧ rd (rb_at a') = false ∧ rd (rb_at b') = false ∧ rb_TB rd a' h ∧ rb_TB rd b' h := by
  by_cases z : e = c
  · exact ⟨a, b, by rw [z], ha, hb, ta, tb⟩
  · refine ⟨b, a, ?_, hb, ha, tb, ta⟩
    have : c = !e := by cases e <;> cases c <;> first | rfl | exact absurd rfl z
    rw [this, rb_mk_not]
end
section
variable {free : Nat} {cur : Int32} {key val : Nat → Int32}
theorem rb_sa_nil {post : St1 → Prop} {root : Nat} {ch : Bool → Nat → Nat} {pa : Nat → Nat} {rd : Nat → Bool} {sz : Nat → Int32} {tot : Nat → Int64} {e : Bool} {n : Nat} {a b : rb_T} {h step f : Nat}
    (w : rb_W root ch pa val sz tot (rb_mk e n a b)) (h0 : rd 0 = false) (ta : rb_TB rd a h) (tb : rb_TB rd b h) (hf : 0 < f)
    (H : ∀ root' ch' pa' rd' sz' tot' T', rb_W root' ch' pa' val sz' tot' T' → rb_io T' = rb_io (rb_mk e n a b) → rb_OK rd' T' → rd' 0 = false → (∀ k, k ∉ rb_io (rb_mk e n a b) → pa' k = pa k) → post (rb_st root' free cur ch' pa' rd' key val sz' tot')) :
    wX_settleAdded_4 post f (nI n) (nI step) (nI root) (nI free) cur (fun k => nI (ch false k)) (fun k => nI (ch true k)) (fun k => nI (pa k)) (fun k => rb_bI (rd k)) key val sz tot := by
  obtain ⟨⟨w1, w2, w3, w4, w5, w6⟩, wz⟩ := id w
  obtain ⟨t1, t2, t3, t4, t5, t6⟩ := (rb_TS_mk e n a b 0).mp w2
  have er : root = n := w1.trans (rb_at_mk e n a b)
  have n48 : n ≤ 48 := w4 n ((rb_io_mk e n a b).mem_iff.mpr (by simp))
  have nd := (rb_io_mk e n a b).nodup_iff.mp w3
  simp only [List.nodup_cons, List.mem_append, not_or] at nd
  have z0 : rb_set rd root false 0 = rd 0 := by rw [h0]; exact rb_set_0 h0 (Or.inr rfl)
  refine rb_sa_exit n48 (by omega) w6 (by rw [t2, h0]) (by omega) (H _ _ _ _ _ _ _ w rfl ⟨h + 1, ?_, ?_⟩ (z0.trans h0) (fun _ _ => rfl))
  · refine (rb_TB_blk ?_).mpr ⟨rb_TB_cg a h ta (fun k hk => rb_set_off (fun z => nd.1.1 (by rw [← er, ← z]; exact hk))) z0, rb_TB_cg b h tb (fun k hk => rb_set_off (fun z => nd.1.2 (by rw [← er, ← z]; exact hk))) z0⟩
    rw [er]; exact rb_set_on
  · show rb_set rd root false (rb_at (rb_mk e n a b)) = false
    rw [rb_at_mk, er]; exact rb_set_on
theorem rb_root48 {root : Nat} {ch : Bool → Nat → Nat} {pa : Nat → Nat} {T : rb_T} (v : rb_V root ch pa T) : root ≤ 48 := by
  rw [v.1]
  by_cases z : rb_at T = 0
  · omega
  · exact v.2.2.2.1 _ (rb_at_mem z)
theorem rb_sa_fin {post : St1 → Prop} {root : Nat} {ch : Bool → Nat → Nat} {pa : Nat → Nat} {rd rd2 : Nat → Bool} {sz : Nat → Int32} {tot : Nat → Int64} {C : List rb_F} {d : Bool} {n q g h step f : Nat} {M i u : rb_T}
    (w : rb_W root ch pa val sz tot (rb_plug C (rb_mk d q M (rb_mk d g i u)))) (em : rb_at M = n) (n48 : n ≤ 48) (qg : q ≠ g) (q0 : q ≠ 0) (g0 : g ≠ 0) (h0 : rd 0 = false) (e2 : rb_set (rb_set rd q false) g true = rd2) (tM : rb_TB rd M h) (ri : rd (rb_at i) = false) (ru : rd (rb_at u) = false) (hn0 : n ≠ 0) (ti : rb_TB rd i h) (tu : rb_TB rd u h) (cb : rb_CB rd C false (h + 1))
    (nM : q ∉ rb_io M ∧ g ∉ rb_io M) (qi : q ∉ rb_io i) (qu : q ∉ rb_io u) (qN : q ∉ rb_cn C) (gX : g ∉ rb_io i ∧ g ∉ rb_io u ∧ g ∉ rb_cn C) (hf : 0 < f)
    (H : rb_OK rd2 (rb_plug C (rb_mk d q M (rb_mk d g i u))) → rd2 0 = false → True → post (rb_st root free cur ch pa rd2 key val sz tot)) :
    wX_settleAdded_4 post f (nI n) (nI step) (nI root) (nI free) cur (fun k => nI (ch false k)) (fun k => nI (ch true k)) (fun k => nI (pa k)) (fun k => rb_bI (rb_set (rb_set rd q false) g true k)) key val sz tot := by
  rw [e2]
  obtain ⟨wv, wz⟩ := id w
  obtain ⟨w1, w2, w3, w4, w5, w6⟩ := id wv
  obtain ⟨_, tq⟩ := (rb_TS_plug C _).mp ⟨w1, w2⟩
  obtain ⟨_, _, _, _, tm, _⟩ := (rb_TS_mk d q M _ _).mp tq
  have off : ∀ k, k ≠ q → k ≠ g → rd2 k = rd k := fun k k1 k2 => by rw [← e2, rb_set_off k2, rb_set_off k1]
  have z0 : rd2 0 = rd 0 := off 0 (Ne.symm q0) (Ne.symm g0)
  have rq : rd2 q = false := by rw [← e2, rb_set_off qg, rb_set_on]
  have rg : rd2 g = true := by rw [← e2, rb_set_on]
  have cu : ∀ (w : List Nat), q ∉ w → g ∉ w → ∀ k, k ∈ w → rd2 k = rd k := fun w h1 h2 k hk => off k (fun z => h1 (z ▸ hk)) (fun z => h2 (z ▸ hk))
  have ra : ∀ t : rb_T, q ∉ rb_io t → g ∉ rb_io t → rd (rb_at t) = false → rd2 (rb_at t) = false := fun t h1 h2 h3 => by
    by_cases z : rb_at t = 0
    · rw [z, z0, h0]
    · rw [cu _ h1 h2 _ (rb_at_mem z), h3]
  have pn : pa n = q := by
    cases M with
    | leaf u => exact absurd em.symm hn0
    | branch x l r =>
      have e' : x = n := em
      rw [← e']
      exact tm.2.1
  have ok : rb_OK rd2 (rb_plug C (rb_mk d q M (rb_mk d g i u))) := by
    refine (rb_TB_plug _ _).mpr ⟨h + 1, (rb_TB_blk rq).mpr ⟨rb_TB_cg M h tM (cu _ nM.1 nM.2) z0, (rb_TB_red rg).mpr ⟨ra i qi gX.1 ri, ra u qu gX.2.1 ru, rb_TB_cg i h ti (cu _ qi gX.1) z0, rb_TB_cg u h tu (cu _ qu gX.2.1) z0⟩⟩, ?_⟩
    rw [rb_at_mk, rq]
    exact rb_CB_cg C _ _ cb (cu _ qN gX.2.2) z0
  refine rb_sa_exit n48 (rb_root48 wv) w6 (by rw [pn]; exact rq) hf ?_
  obtain ⟨_, _, o2⟩ := id ok
  rw [rb_set_id (by rw [w1]; exact o2)]
  exact H ok (z0.trans h0) trivial
theorem rb_sa {post : St1 → Prop} : ∀ (m : Nat) (C : List rb_F), C.length ≤ m → ∀ (root : Nat) (ch : Bool → Nat → Nat) (pa : Nat → Nat) (rd : Nat → Bool) (sz : Nat → Int32) (tot : Nat → Int64) (e : Bool) (n : Nat) (a b : rb_T) (h step f : Nat),
    rb_W root ch pa val sz tot (rb_plug C (rb_mk e n a b)) → rd 0 = false → rd n = true → rd (rb_at a) = false → rd (rb_at b) = false → rb_TB rd a h → rb_TB rd b h → rb_CB rd C false h → step + C.length ≤ 48 → C.length < f →
    (∀ root' ch' pa' rd' sz' tot' T', rb_W root' ch' pa' val sz' tot' T' → rb_io T' = rb_io (rb_plug C (rb_mk e n a b)) → rb_OK rd' T' → rd' 0 = false → (∀ k, k ∉ rb_io (rb_plug C (rb_mk e n a b)) → pa' k = pa k) → post (rb_st root' free cur ch' pa' rd' key val sz' tot')) →
    wX_settleAdded_4 post f (nI n) (nI step) (nI root) (nI free) cur (fun k => nI (ch false k)) (fun k => nI (ch true k)) (fun k => nI (pa k)) (fun k => rb_bI (rd k)) key val sz tot := by
  intro m
  induction m with
  | zero =>
    intro C hC root ch pa rd sz tot e n a b h step f w h0 hn ha hb ta tb cb hs hf H
    cases C with
    | cons f C => simp at hC
    | nil => exact rb_sa_nil w h0 ta tb (by omega) H
  | succ m ih =>
    intro C hC root ch pa rd sz tot e n a b h step f w h0 hn ha hb ta tb cb hs hf H
    cases C with
    | nil => exact rb_sa_nil w h0 ta tb (by omega) H
    | cons fr C1 =>
      obtain ⟨c, p, s⟩ := fr
      simp only [List.length_cons] at hC hs hf
      obtain ⟨f, rfl⟩ : ∃ g, f = g + 1 := ⟨f - 1, by omega⟩
      rcases cb with ⟨rp, _, rs, ts, cb1⟩ | ⟨rp, ts, cb1⟩
      · obtain ⟨a, b, em, ha, hb, ta, tb⟩ := rb_mk_to (e := e) (c := c) (n := n) ha hb ta tb
        rw [em] at w H
        clear em
        cases C1 with
        | nil => exact absurd (show true = false from cb1) (by decide)
        | cons fr C2 =>
          obtain ⟨d, g, u⟩ := fr
          simp only [List.length_cons] at hC hs hf
          rcases cb1 with ⟨_, z, _⟩ | ⟨rg, tu, cb2⟩
          · exact absurd z (by decide)
          have w' : rb_W root ch pa val sz tot (rb_plug C2 (rb_mk d g (rb_mk c p (rb_mk c n a b) s) u)) := w
          obtain ⟨⟨w1, w2, w3, w4, w5, w6⟩, wz⟩ := id w'
          have P := rb_perm3 C2 d c c g p n a b s u
          have nd := P.nodup_iff.mp w3
          simp only [List.nodup_cons, List.nodup_append, List.mem_cons, List.mem_append, not_or] at nd
          obtain ⟨⟨gp, gn, gA, gB, gS, gU, gN⟩, ⟨pn, pA, pB, pS, pU, pN⟩, ⟨nA, nB, nS, nU, nN⟩, ndA, ⟨ndB, ⟨ndS, ⟨ndU, ndN, dU⟩, dS⟩, dB⟩, dA⟩ := nd
          obtain ⟨cs, tg⟩ := (rb_TS_plug C2 _).mp ⟨w1, w2⟩
          obtain ⟨g1, g2, g3, g4, g5, g6⟩ := (rb_TS_mk d g _ u _).mp tg
          rw [rb_at_mk] at g3
          obtain ⟨p1, p2, p3, p4, p5, p6⟩ := (rb_TS_mk c p _ s g).mp g5
          rw [rb_at_mk] at p3
          obtain ⟨n1, n2, n3, n4, n5, n6⟩ := (rb_TS_mk c n a b p).mp p5
          have n48 : n ≤ 48 := w4 n (P.mem_iff.mpr (by simp))
          have p48 : p ≤ 48 := w4 p (P.mem_iff.mpr (by simp))
          have g48 : g ≤ 48 := w4 g (P.mem_iff.mpr (by simp))
          have u48 : rb_at u ≤ 48 := by rw [← g4]; exact w5 _ _
          have ne : ∀ (w : List Nat) (m : Nat), m ∉ w → ∀ k, k ∈ w → k ≠ m := fun w m hw k hk z => hw (z ▸ hk)
          have na : ∀ (t : rb_T) (m : Nat), m ∉ rb_io t → m ≠ 0 → rb_at t ≠ m := fun t m hm h0 z => hm (by rw [← z]; exact rb_at_mem (by omega))
          have hd : ch false g = p ↔ d = false := by
            cases d with
            | false => exact ⟨fun _ => rfl, fun _ => g3⟩
            | true =>
              have g4' : ch false g = rb_at u := g4
              rw [g4']
              exact ⟨fun z => absurd z (na u p pU (by omega)), fun z => absurd z (by decide)⟩
          have hk : ch true p = n ↔ c = true := by
            cases c with
            | true => exact ⟨fun _ => rfl, fun _ => p3⟩
            | false =>
              have p4' : ch true p = rb_at s := p4
              rw [p4']
              exact ⟨fun z => absurd z (na s n nS (by omega)), fun z => absurd z (by decide)⟩
          refine rb_w_sa82 (d := d) (by omega) n48 w6 w5 n2 p2 rp hd ?_
          unfold wX_settleAdded_82
          rw [g4]
          refine ⟨rb_in48 u48, ?_⟩
          by_cases ur : rd (rb_at u) = true
          · have u0 : rb_at u ≠ 0 := fun z => by rw [z, h0] at ur; exact absurd ur (by decide)
            have um := rb_at_mem u0
            refine br_f (by simp only [rb_cl48 u48, ur]; decide) ⟨rb_in48 p48, nm_r (e' := fun k => rb_bI (rb_set rd p false k)) (by rw [rb_cl48 p48]; exact rb_upB _ _ false) ⟨rb_in48 u48, nm_r (e' := fun k => rb_bI (rb_set (rb_set rd p false) (rb_at u) false k)) (by rw [rb_cl48 u48]; exact rb_upB _ _ false) ⟨rb_in48 g48, nm_r (e' := fun k => rb_bI (rb_set (rb_set (rb_set rd p false) (rb_at u) false) g true k)) (by rw [rb_cl48 g48]; exact rb_upB _ _ true) (nm_r (e' := nI (step + 1)) (nI_1 step) ?_)⟩⟩⟩
            obtain ⟨rd3, e3⟩ : ∃ x, x = rb_set (rb_set (rb_set rd p false) (rb_at u) false) g true := ⟨_, rfl⟩
            rw [← e3]
            have off : ∀ k, k ≠ p → k ≠ rb_at u → k ≠ g → rd3 k = rd k := fun k k1 k2 k3 => by
              rw [e3, rb_set_off k3, rb_set_off k2, rb_set_off k1]
            have z0 : rd3 0 = rd 0 := off 0 (by omega) (Ne.symm u0) (by omega)
            have r3p : rd3 p = false := by rw [e3, rb_set_off (Ne.symm gp), rb_set_off (fun (z : p = rb_at u) => pU (z ▸ um)), rb_set_on]
            have r3u : rd3 (rb_at u) = false := by rw [e3, rb_set_off (fun (z : rb_at u = g) => gU (z ▸ um)), rb_set_on]
            have r3g : rd3 g = true := by rw [e3, rb_set_on]
            have cu : ∀ (w : List Nat), p ∉ w → g ∉ w → rb_at u ∉ w → ∀ k, k ∈ w → rd3 k = rd k := fun w h1 h2 h3 k hk => off k (ne _ _ h1 k hk) (ne _ _ h3 k hk) (ne _ _ h2 k hk)
            have tu3 : rb_TB rd3 u (h + 1) := by
              refine rb_TB_cg u (h + 1) (rb_TB_blacken h0 ur ndU tu) (fun k hk => ?_) ?_
              · by_cases z : k = rb_at u
                · rw [z, r3u, rb_set_on]
                · rw [rb_set_off z]; exact off k (ne _ _ pU k hk) z (ne _ _ gU k hk)
              · rw [z0, rb_set_off (Ne.symm u0)]
            refine ih C2 (by omega) root ch pa rd3 sz tot d g _ u (h + 1) (step + 1) f w' (z0.trans h0) r3g (by rw [rb_at_mk]; exact r3p) r3u ((rb_TB_blk r3p).mpr ⟨(rb_TB_red ?_).mpr ⟨?_, ?_, ?_, ?_⟩, ?_⟩) tu3 (rb_CB_cg C2 _ _ cb2 (cu _ pN gN (fun z => dU _ um _ z rfl)) z0) (by omega) (by omega) H
            · rw [off n (Ne.symm pn) (fun z => nU (z ▸ um)) (Ne.symm gn)]; exact hn
            · by_cases z : rb_at a = 0
              · rw [z, z0, h0]
              · rw [cu _ pA gA (fun y => dA _ y _ (Or.inr (Or.inr (Or.inl um))) rfl) _ (rb_at_mem z)]; exact ha
            · by_cases z : rb_at b = 0
              · rw [z, z0, h0]
              · rw [cu _ pB gB (fun y => dB _ y _ (Or.inr (Or.inl um)) rfl) _ (rb_at_mem z)]; exact hb
            · exact rb_TB_cg a h ta (cu _ pA gA (fun y => dA _ y _ (Or.inr (Or.inr (Or.inl um))) rfl)) z0
            · exact rb_TB_cg b h tb (cu _ pB gB (fun y => dB _ y _ (Or.inr (Or.inl um)) rfl)) z0
            · exact rb_TB_cg s h ts (cu _ pS gS (fun y => dS _ y _ (Or.inl um) rfl)) z0
          · have ub : rd (rb_at u) = false := by cases z : rd (rb_at u) with
              | false => rfl
              | true => exact absurd z ur
            refine br_t (by simp only [rb_cl48 u48, ub]; rfl) (rb_w_str (c := c) n48 p48 w5 hk (fun z => ?_) (fun z => ?_))
            · subst z
              refine rb_w_sat (d := c) n48 p48 g48 n2 (rb_turn (C := C2) (e := c) (n := g) (x := p) (i := s) (b := u) w' (fun root' ch' pa' sz' tot' y offp => nm_r (nI_1 step) ?_))
              have eio := rb_io_plug_cg (C := C2) (rb_io_turn c g p (rb_mk c n a b) s u)
              refine rb_sa_fin (q := p) (M := rb_mk c n a b) (g := g) (i := s) (u := u) (d := c) (h := h) y (rb_at_mk c n a b) n48 (Ne.symm gp) (by omega) (by omega) h0 rfl ?_ rs ub (by omega) ts tu cb2 ?_ pS pU pN ⟨gS, gU, gN⟩ (by omega) (fun o1 o2 o3 => H _ _ _ _ _ _ _ y eio o1 o2 offp)
              · exact (rb_TB_red hn).mpr ⟨ha, hb, ta, tb⟩
              · rw [(rb_io_mk c n a b).mem_iff, (rb_io_mk c n a b).mem_iff]
                simp only [List.mem_cons, List.mem_append, not_or]
                exact ⟨⟨pn, pA, pB⟩, ⟨gn, gA, gB⟩⟩
            · subst z
              have w'' : rb_W root ch pa val sz tot (rb_plug ((d, g, u) :: C2) (rb_mk (!d) p (rb_mk (!d) n a b) s)) := w'
              refine rb_turn w'' (fun root' ch' pa' sz' tot' y offp => ?_)
              have y' : rb_W root' ch' pa' val sz' tot' (rb_plug C2 (rb_mk d g (rb_mk (!d) n a (rb_mk (!d) p b s)) u)) := y
              rw [rb_mk_not d n] at y'
              obtain ⟨⟨y1, y2, y3, y4, y5, y6⟩, yz⟩ := id y'
              obtain ⟨_, yg⟩ := (rb_TS_plug C2 _).mp ⟨y1, y2⟩
              obtain ⟨_, _, _, _, yn, _⟩ := (rb_TS_mk d g _ u _).mp yg
              obtain ⟨_, _, _, _, yp, _⟩ := (rb_TS_mk d n _ a _).mp yn
              obtain ⟨_, yq, _⟩ := (rb_TS_mk (!d) p b s _).mp yp
              refine rb_w_sat (d := d) p48 n48 g48 yq (rb_turn (C := C2) (e := d) (n := g) (x := n) (i := a) (b := u) y' (fun root2 ch2 pa2 sz2 tot2 v offq => nm_r (nI_1 step) ?_))
              have e1 := rb_io_plug_cg (C := C2) (rb_io_turn d g n (rb_mk (!d) p b s) a u)
              have e2 : rb_io (rb_plug C2 (rb_mk d g (rb_mk d n (rb_mk (!d) p b s) a) u)) = rb_io (rb_plug ((d, g, u) :: C2) (rb_mk (!d) p (rb_mk (!d) n a b) s)) := by
                rw [← rb_mk_not d n]
                exact rb_io_plug_cg (C := (d, g, u) :: C2) (rb_io_turn (!d) p n a b s)
              refine rb_sa_fin (q := n) (M := rb_mk (!d) p b s) (g := g) (i := a) (u := u) (d := d) (h := h) v (rb_at_mk (!d) p b s) p48 (Ne.symm gn) (by omega) (by omega) h0 rfl ?_ ha ub (by omega) ta tu cb2 ?_ nA nU nN ⟨gA, gU, gN⟩ (by omega) (fun o1 o2 o3 => H _ _ _ _ _ _ _ v (e1.trans e2) o1 o2 (fun k hk => ?_))
              · exact (rb_TB_red rp).mpr ⟨hb, rs, tb, ts⟩
              · rw [(rb_io_mk (!d) p b s).mem_iff, (rb_io_mk (!d) p b s).mem_iff]
                simp only [List.mem_cons, List.mem_append, not_or]
                exact ⟨⟨Ne.symm pn, nB, nS⟩, ⟨gp, gB, gS⟩⟩
              · rw [offq k (by rw [e2]; exact hk), offp k hk]
      · obtain ⟨wv, wz⟩ := id w
        obtain ⟨w1, w2, w3, w4, w5, w6⟩ := id wv
        obtain ⟨_, tn⟩ := (rb_TS_plug ((c, p, s) :: C1) _).mp ⟨w1, w2⟩
        obtain ⟨n1, n2, _⟩ := (rb_TS_mk e n a b _).mp tn
        have ok : rb_OK rd (rb_plug ((c, p, s) :: C1) (rb_mk e n a b)) := (rb_TB_plug _ _).mpr ⟨h, (rb_TB_red hn).mpr ⟨ha, hb, ta, tb⟩, Or.inr ⟨rp, ts, cb1⟩⟩
        have n48 : n ≤ 48 := w4 n ((rb_perm _ _).mem_iff.mpr (List.mem_append_left _ ((rb_io_mk e n a b).mem_iff.mpr (by simp))))
        refine rb_sa_exit n48 (rb_root48 wv) w6 (by rw [n2]; exact rp) (by omega) ?_
        obtain ⟨_, _, o2⟩ := id ok
        rw [rb_set_id (by rw [w1]; exact o2)]
        exact H _ _ _ _ _ _ _ w rfl ok h0 (fun _ _ => rfl)
end
end
section
/-! settleBySister -/
theorem rb_nar (b : Bool) : vp_nar .boolean (rb_bI b) = rb_bI b := by
  cases b <;> rfl
section
variable {root free : Nat} {cur : Int32} {ch : Bool → Nat → Nat} {pa : Nat → Nat} {rd : Nat → Bool} {key val sz : Nat → Int32} {tot : Nat → Int64}
theorem rb_w_s111 {post : St1 → Prop} {e : Bool} {p o ou : Nat} (hp : p ≤ 48) (ho : o ≤ 48) (hu : ou ≤ 48) (eu : ch e o = ou)
    (h : wpX_turn (fun u => match u with | (v1, v2, v3, v4, v5, v6, v7, v8, v9, v10, v11) => post (v1, v2, v3, v4, v5, v6, v7, v8, v9, v10, v11)) (rb_st root free cur ch pa (rb_set (rb_set (rb_set rd o (rd p)) p false) ou false) key val sz tot) (nI p) (rb_bI e)) :
    wX_settleBySister_111 post (nI p) (rb_bI e) (nI o) (nI root) (nI free) cur (fun k => nI (ch false k)) (fun k => nI (ch true k)) (fun k => nI (pa k)) (fun k => rb_bI (rd k)) key val sz tot := by
  unfold wX_settleBySister_111
  refine ⟨rb_in48 hp, rb_in48 ho, nm_r (e' := fun k => rb_bI (rb_set rd o (rd p) k)) (by rw [rb_cl48 hp, rb_cl48 ho, rb_nar]; exact rb_upB _ _ _) ⟨rb_in48 hp, nm_r (e' := fun k => rb_bI (rb_set (rb_set rd o (rd p)) p false k)) (by rw [rb_cl48 hp]; exact rb_upB _ _ false) ?_⟩⟩
  cases e with
  | true =>
    refine br_f (by decide) ⟨rb_in48 ho, ?_⟩
    simp only [rb_cl48 ho, eu]
    unfold wX_settleBySister_156
    exact ⟨rb_in48 hu, nm_r (by rw [rb_cl48 hu]; exact rb_upB _ _ false) h⟩
  | false =>
    refine br_t rfl ⟨rb_in48 ho, ?_⟩
    simp only [rb_cl48 ho, eu]
    unfold wX_settleBySister_156
    exact ⟨rb_in48 hu, nm_r (by rw [rb_cl48 hu]; exact rb_upB _ _ false) h⟩
theorem rb_w_sisr {post : St1 → Prop} {e : Bool} {p o ou : Nat} (ho : o ≤ 48) (hu : ou ≤ 48) (eu : ch e o = ou) (ur : rd ou = true)
    (h : wX_settleBySister_111 post (nI p) (rb_bI e) (nI o) (nI root) (nI free) cur (fun k => nI (ch false k)) (fun k => nI (ch true k)) (fun k => nI (pa k)) (fun k => rb_bI (rd k)) key val sz tot) :
    wpX_settleBySister post (rb_st root free cur ch pa rd key val sz tot) (nI p) (nI o) (rb_bI e) := by
  unfold wpX_settleBySister
  cases e with
  | true =>
    refine br_f (by decide) ⟨rb_in48 ho, ?_⟩
    simp only [rb_cl48 ho, eu]
    unfold wX_settleBySister_24
    exact ⟨rb_in48 hu, br_f (by simp only [rb_cl48 hu, ur]; decide) h⟩
  | false =>
    refine br_t rfl ⟨rb_in48 ho, ?_⟩
    simp only [rb_cl48 ho, eu]
    unfold wX_settleBySister_24
    exact ⟨rb_in48 hu, br_f (by simp only [rb_cl48 hu, ur]; decide) h⟩
theorem rb_w_sisb {post : St1 → Prop} {e : Bool} {p o ou y : Nat} (hp : p ≤ 48) (ho : o ≤ 48) (hu : ou ≤ 48) (hy : y ≤ 48) (eu : ch e o = ou) (ey : ch (!e) o = y) (ur : rd ou = false)
    (h : ∀ Q : St1 → Prop, (∀ root' ch' pa' sz' tot', wX_settleBySister_111 post (nI p) (rb_bI e) (nI (ch' e p)) (nI root') (nI free) cur (fun k => nI (ch' false k)) (fun k => nI (ch' true k)) (fun k => nI (pa' k)) (fun k => rb_bI (rb_set (rb_set rd y false) o true k)) key val sz' tot' → Q (rb_st root' free cur ch' pa' (rb_set (rb_set rd y false) o true) key val sz' tot')) → wpX_turn Q (rb_st root free cur ch pa (rb_set (rb_set rd y false) o true) key val sz tot) (nI o) (rb_bI (!e))) :
    wpX_settleBySister post (rb_st root free cur ch pa rd key val sz tot) (nI p) (nI o) (rb_bI e) := by
  have E1 : upd (fun k => rb_bI (rd k)) (nI y).toNatClampNeg 0 = fun k => rb_bI (rb_set rd y false k) := by
    rw [rb_cl48 hy]; exact rb_upB _ _ false
  have E2 : upd (fun k => rb_bI (rb_set rd y false k)) (nI o).toNatClampNeg 1 = fun k => rb_bI (rb_set (rb_set rd y false) o true k) := by
    rw [rb_cl48 ho]; exact rb_upB _ _ true
  unfold wpX_settleBySister
  cases e with
  | true =>
    refine br_f (by decide) ⟨rb_in48 ho, ?_⟩
    simp only [rb_cl48 ho, eu]
    unfold wX_settleBySister_24
    refine ⟨rb_in48 hu, br_t (by simp only [rb_cl48 hu, ur]; rfl) (br_f (by decide) ⟨rb_in48 ho, ?_⟩)⟩
    have ey' : ch false o = y := ey
    simp only [rb_cl48 ho, ey']
    unfold wX_settleBySister_57
    refine ⟨rb_in48 hy, nm_r E1 ⟨rb_in48 ho, nm_r E2 (br_f (by decide) ?_)⟩⟩
    unfold wX_settleBySister_87
    refine h _ (fun root' ch' pa' sz' tot' q => br_f (by decide) ⟨rb_in48 hp, ?_⟩)
    rw [rb_cl48 hp]
    exact q
  | false =>
    refine br_t rfl ⟨rb_in48 ho, ?_⟩
    simp only [rb_cl48 ho, eu]
    unfold wX_settleBySister_24
    refine ⟨rb_in48 hu, br_t (by simp only [rb_cl48 hu, ur]; rfl) (br_t rfl ⟨rb_in48 ho, ?_⟩)⟩
    have ey' : ch true o = y := ey
    simp only [rb_cl48 ho, ey']
    unfold wX_settleBySister_57
    refine ⟨rb_in48 hy, nm_r E1 ⟨rb_in48 ho, nm_r E2 (br_t rfl ?_)⟩⟩
    unfold wX_settleBySister_87
    refine h _ (fun root' ch' pa' sz' tot' q => br_t rfl ⟨rb_in48 hp, ?_⟩)
    rw [rb_cl48 hp]
    exact q
end
theorem rb_sis_ok {rd' : Nat → Bool} {c e : Bool} {C : List rb_F} {q p h : Nat} {X i t : rb_T} (rq : rd' q = c) (rp : rd' p = false) (tX : rb_TB rd' X (h + 1)) (rX : rd' (rb_at X) = false) (ti : rb_TB rd' i h) (tt : rb_TB rd' t h) (cb : (c = true ∧ rb_CB rd' C true (h + 1)) ∨ (c = false ∧ rb_CB rd' C false (h + 2))) :
    rb_OK rd' (rb_plug C (rb_mk e q X (rb_mk e p i t))) := by
  have tp : rb_TB rd' (rb_mk e p i t) (h + 1) := (rb_TB_blk rp).mpr ⟨ti, tt⟩
  rcases cb with ⟨hc, cb⟩ | ⟨hc, cb⟩
  · refine (rb_TB_plug _ _).mpr ⟨h + 1, (rb_TB_red (rq.trans hc)).mpr ⟨rX, by rw [rb_at_mk]; exact rp, tX, tp⟩, ?_⟩
    rw [rb_at_mk, rq, hc]
    exact cb
  · refine (rb_TB_plug _ _).mpr ⟨h + 2, (rb_TB_blk (rq.trans hc)).mpr ⟨tX, tp⟩, ?_⟩
    rw [rb_at_mk, rq, hc]
    exact cb
section
variable {root free : Nat} {cur : Int32} {ch : Bool → Nat → Nat} {pa : Nat → Nat} {rd : Nat → Bool} {key val sz : Nat → Int32} {tot : Nat → Int64}
theorem rb_sis {post : St1 → Prop} {C : List rb_F} {e : Bool} {p o h : Nat} {out inn t : rb_T} (w : rb_W root ch pa val sz tot (rb_plug C (rb_mk e p (rb_mk e o out inn) t))) (h0 : rd 0 = false) (tt : rb_TB rd t h) (to : rb_TB rd out h) (ti : rb_TB rd inn h) (nb : ¬ (rd (rb_at out) = false ∧ rd (rb_at inn) = false))
    (cb : (rd p = true ∧ rb_CB rd C true (h + 1)) ∨ (rd p = false ∧ rb_CB rd C false (h + 2)))
    (H : ∀ root' ch' pa' rd' sz' tot' T', rb_W root' ch' pa' val sz' tot' T' → rb_io T' = rb_io (rb_plug C (rb_mk e p (rb_mk e o out inn) t)) → rb_OK rd' T' → rd' 0 = false → (∀ k, k ∉ rb_io (rb_plug C (rb_mk e p (rb_mk e o out inn) t)) → pa' k = pa k) → post (rb_st root' free cur ch' pa' rd' key val sz' tot')) :
    wpX_settleBySister post (rb_st root free cur ch pa rd key val sz tot) (nI p) (nI o) (rb_bI e) := by
  obtain ⟨wv, wz⟩ := id w
  obtain ⟨w1, w2, w3, w4, w5, w6⟩ := id wv
  have P := rb_perm2 C e p o out inn t
  obtain ⟨hpo, ⟨pO, pI, pT, pN⟩, ⟨oO, oI, oT, oN⟩, dO, dI, dT, ndI, ndN⟩ := rb_nd5 (P.nodup_iff.mp w3)
  have p48 : p ≤ 48 := w4 p (P.mem_iff.mpr (by simp))
  have o48 : o ≤ 48 := w4 o (P.mem_iff.mpr (by simp))
  obtain ⟨_, tp⟩ := (rb_TS_plug C _).mp ⟨w1, w2⟩
  obtain ⟨p1, p2, p3, p4, p5, p6⟩ := (rb_TS_mk e p _ t _).mp tp
  obtain ⟨o1, o2, o3, o4, o5, o6⟩ := (rb_TS_mk e o out inn p).mp p5
  have u48 : rb_at out ≤ 48 := by rw [← o3]; exact w5 _ _
  have y48 : rb_at inn ≤ 48 := by rw [← o4]; exact w5 _ _
  have ne : ∀ (w : List Nat) (m : Nat), m ∉ w → ∀ k, k ∈ w → k ≠ m := fun w m hw k hk z => hw (z ▸ hk)
  cases ur : rd (rb_at out) with
  | true =>
    have u0 : rb_at out ≠ 0 := fun z => by rw [z, h0] at ur; exact absurd ur (by decide)
    have um := rb_at_mem u0
    have ndO : (rb_io out).Nodup := by
      have := P.nodup_iff.mp w3
      simp only [List.nodup_cons, List.nodup_append] at this
      exact this.2.2.1
    refine rb_w_sisr o48 u48 o3 ur (rb_w_s111 p48 o48 u48 o3 (rb_turn (C := C) (e := e) (n := p) (x := o) (o := out) (i := inn) (b := t) w (fun root' ch' pa' sz' tot' y offp => H _ _ _ _ _ _ _ y (rb_io_plug_cg (rb_io_turn e p o out inn t)) ?_ ?_ offp)))
    all_goals
      obtain ⟨r3, e3⟩ : ∃ x, x = rb_set (rb_set (rb_set rd o (rd p)) p false) (rb_at out) false := ⟨_, rfl⟩
      rw [← e3]
      have off : ∀ k, k ≠ o → k ≠ p → k ≠ rb_at out → r3 k = rd k := fun k k1 k2 k3 => by
        rw [e3, rb_set_off k3, rb_set_off k2, rb_set_off k1]
      have z0 : r3 0 = rd 0 := off 0 (by omega) (by omega) (Ne.symm u0)
    · have cu : ∀ (w : List Nat), o ∉ w → p ∉ w → rb_at out ∉ w → ∀ k, k ∈ w → r3 k = rd k := fun w h1 h2 h3 k hk => off k (ne _ _ h1 k hk) (ne _ _ h2 k hk) (ne _ _ h3 k hk)
      have rp : r3 p = false := by rw [e3, rb_set_off (fun (z : p = rb_at out) => pO (z ▸ um)), rb_set_on]
      have rq : r3 o = rd p := by rw [e3, rb_set_off (fun (z : o = rb_at out) => oO (z ▸ um)), rb_set_off (Ne.symm hpo), rb_set_on]
      have ru : r3 (rb_at out) = false := by rw [e3, rb_set_on]
      have tX : rb_TB r3 out (h + 1) := by
        refine rb_TB_cg out (h + 1) (rb_TB_blacken h0 ur ndO to) (fun k hk => ?_) ?_
        · by_cases z : k = rb_at out
          · rw [z, ru, rb_set_on]
          · rw [rb_set_off z]; exact off k (ne _ _ oO k hk) (ne _ _ pO k hk) z
        · rw [z0, rb_set_off (Ne.symm u0)]
      refine rb_sis_ok rq rp tX ru (rb_TB_cg inn h ti (cu _ oI pI (fun z => (dO _ um).1 z)) z0) (rb_TB_cg t h tt (cu _ oT pT (fun z => (dO _ um).2.1 z)) z0) ?_
      have cc : ∀ b k, rb_CB rd C b k → rb_CB r3 C b k := fun b k q => rb_CB_cg C b k q (cu _ oN pN (fun z => (dO _ um).2.2 z)) z0
      rcases cb with ⟨hc, cb⟩ | ⟨hc, cb⟩
      · exact Or.inl ⟨hc, cc _ _ cb⟩
      · exact Or.inr ⟨hc, cc _ _ cb⟩
    · exact z0.trans h0
  | false =>
    have yr : rd (rb_at inn) = true := by
      cases z : rd (rb_at inn) with
      | true => rfl
      | false => exact absurd ⟨ur, z⟩ nb
    obtain ⟨y, A, B, ei⟩ := rb_red_pos h0 yr (!e)
    subst ei
    rw [rb_at_mk] at yr y48 o4
    have y0 : y ≠ 0 := fun z => by rw [z, h0] at yr; exact absurd yr (by decide)
    have mI : ∀ k, k ∈ rb_io (rb_mk (!e) y A B) ↔ k = y ∨ k ∈ rb_io A ∨ k ∈ rb_io B := fun k => by
      rw [(rb_io_mk (!e) y A B).mem_iff]; simp
    have nI2 := (rb_io_mk (!e) y A B).nodup_iff.mp ndI
    simp only [List.nodup_cons, List.nodup_append, List.mem_append, not_or] at nI2
    obtain ⟨⟨yA, yB⟩, _, _, dAB⟩ := nI2
    have hpy : p ≠ y := fun z => pI ((mI p).mpr (Or.inl z))
    have hoy : o ≠ y := fun z => oI ((mI o).mpr (Or.inl z))
    have pA : p ∉ rb_io A := fun z => pI ((mI p).mpr (Or.inr (Or.inl z)))
    have pB : p ∉ rb_io B := fun z => pI ((mI p).mpr (Or.inr (Or.inr z)))
    have oA : o ∉ rb_io A := fun z => oI ((mI o).mpr (Or.inr (Or.inl z)))
    have oB : o ∉ rb_io B := fun z => oI ((mI o).mpr (Or.inr (Or.inr z)))
    have yO : y ∉ rb_io out := fun z => (dO y z).1 ((mI y).mpr (Or.inl rfl))
    have yT : y ∉ rb_io t := (dI y ((mI y).mpr (Or.inl rfl))).1
    have yN : y ∉ rb_cn C := (dI y ((mI y).mpr (Or.inl rfl))).2
    obtain ⟨rA, rB, tA, tB⟩ := (rb_TB_red yr).mp ti
    have w' : rb_W root ch pa val sz tot (rb_plug ((e, p, t) :: C) (rb_mk (!e) o (rb_mk (!e) y A B) out)) := by
      rw [rb_mk_not e o]; exact w
    refine rb_w_sisb p48 o48 u48 y48 o3 o4 ur (fun Q hQ => rb_turn w' (fun root' ch' pa' sz' tot' v offp => hQ _ _ _ _ _ ?_))
    have v' : rb_W root' ch' pa' val sz' tot' (rb_plug C (rb_mk e p (rb_mk (!e) y A (rb_mk (!e) o B out)) t)) := v
    rw [rb_mk_not e y] at v'
    obtain ⟨vv, vz⟩ := id v'
    obtain ⟨v1, v2, v3, v4, v5, v6⟩ := id vv
    obtain ⟨_, sp⟩ := (rb_TS_plug C _).mp ⟨v1, v2⟩
    obtain ⟨_, _, s3, _, s5, _⟩ := (rb_TS_mk e p _ t _).mp sp
    rw [rb_at_mk] at s3
    obtain ⟨_, _, q3, _, _, _⟩ := (rb_TS_mk e y _ A p).mp s5
    rw [rb_at_mk] at q3
    have e2 : rb_io (rb_plug C (rb_mk e p (rb_mk e y (rb_mk (!e) o B out) A) t)) = rb_io (rb_plug C (rb_mk e p (rb_mk e o out (rb_mk (!e) y A B)) t)) := by
      rw [← rb_mk_not e y, ← rb_mk_not e o]
      exact rb_io_plug_cg (C := (e, p, t) :: C) (rb_io_turn (!e) o y A B out)
    have e1 := rb_io_plug_cg (C := C) (rb_io_turn e p y (rb_mk (!e) o B out) A t)
    rw [s3]
    refine rb_w_s111 p48 y48 o48 q3 (rb_turn (C := C) (e := e) (n := p) (x := y) (o := rb_mk (!e) o B out) (i := A) (b := t) v' (fun root2 ch2 pa2 sz2 tot2 x offq => H _ _ _ _ _ _ _ x (e1.trans e2) ?_ ?_ (fun k hk => ?_)))
    rotate_left 2
    · rw [offq k (by rw [e2]; exact hk), offp k (by rw [rb_mk_not e o]; exact hk)]
    all_goals
      obtain ⟨r2, e2'⟩ : ∃ x, x = rb_set (rb_set rd y false) o true := ⟨_, rfl⟩
      rw [← e2']
      obtain ⟨r3, e3⟩ : ∃ x, x = rb_set (rb_set (rb_set r2 y (r2 p)) p false) o false := ⟨_, rfl⟩
      rw [← e3]
      have off : ∀ k, k ≠ y → k ≠ o → k ≠ p → r3 k = rd k := fun k k1 k2 k3 => by
        rw [e3, rb_set_off k2, rb_set_off k3, rb_set_off k1, e2', rb_set_off k2, rb_set_off k1]
      have z0 : r3 0 = rd 0 := off 0 (by omega) (by omega) (by omega)
    · have cu : ∀ (w : List Nat), y ∉ w → o ∉ w → p ∉ w → ∀ k, k ∈ w → r3 k = rd k := fun w h1 h2 h3 k hk => off k (ne _ _ h1 k hk) (ne _ _ h2 k hk) (ne _ _ h3 k hk)
      have rp2 : r2 p = rd p := by rw [e2', rb_set_off hpo, rb_set_off hpy]
      have rp : r3 p = false := by rw [e3, rb_set_off hpo, rb_set_on]
      have rq : r3 y = rd p := by rw [e3, rb_set_off (Ne.symm hoy), rb_set_off (Ne.symm hpy), rb_set_on, rp2]
      have ro : r3 o = false := by rw [e3, rb_set_on]
      refine rb_sis_ok rq rp ((rb_TB_blk ro).mpr ⟨rb_TB_cg B h tB (cu _ yB oB pB) z0, rb_TB_cg out h to (cu _ yO oO pO) z0⟩) (by rw [rb_at_mk]; exact ro) (rb_TB_cg A h tA (cu _ yA oA pA) z0) (rb_TB_cg t h tt (cu _ yT oT pT) z0) ?_
      have cc : ∀ b k, rb_CB rd C b k → rb_CB r3 C b k := fun b k q => rb_CB_cg C b k q (cu _ yN oN pN) z0
      rcases cb with ⟨hc, cb⟩ | ⟨hc, cb⟩
      · exact Or.inl ⟨hc, cc _ _ cb⟩
      · exact Or.inr ⟨hc, cc _ _ cb⟩
    · exact z0.trans h0
end
end
section
/-! settleRemoved -/
def rb_TW (rd : Nat → Bool) : rb_T → Nat → Prop
  | .leaf _, h => h = 0
  | .branch n l r, h => (rd n = true ∧ rb_TB rd l h ∧ rb_TB rd r h) ∨ (rd n = false ∧ ∃ k, h = k + 1 ∧ rb_TB rd l k ∧ rb_TB rd r k)
theorem rb_TW_mk {rd : Nat → Bool} {e : Bool} {n h : Nat} {a b : rb_T} (q : (rd n = true ∧ rb_TB rd a h ∧ rb_TB rd b h) ∨ (rd n = false ∧ ∃ k, h = k + 1 ∧ rb_TB rd a k ∧ rb_TB rd b k)) : rb_TW rd (rb_mk e n a b) h := by
  cases e
  · exact q
  · rcases q with ⟨q1, q2, q3⟩ | ⟨q1, k, q2, q3, q4⟩
    · exact Or.inl ⟨q1, q3, q2⟩
    · exact Or.inr ⟨q1, k, q2, q4, q3⟩
theorem rb_TW_blk {rd : Nat → Bool} {t : rb_T} {h : Nat} (q : rb_TW rd t h) (b : rd (rb_at t) = false) : rb_TB rd t h := by
  cases t with
  | leaf u => exact q
  | branch n l r =>
    rcases q with ⟨q1, _⟩ | q
    · exact absurd (q1.symm.trans b) (by decide)
    · exact Or.inr q
theorem rb_TW_red {rd : Nat → Bool} {t : rb_T} {h : Nat} (q : rb_TW rd t h) (h0 : rd 0 = false) (b : rd (rb_at t) = true) (nd : (rb_io t).Nodup) : rb_TB (rb_set rd (rb_at t) false) t (h + 1) := by
  cases t with
  | leaf u => exact absurd (h0.symm.trans b) (by decide)
  | branch n l r =>
    have z0 : rb_set rd n false 0 = rd 0 := by rw [h0]; exact rb_set_0 h0 (Or.inr rfl)
    have nl : n ∉ rb_io l ∧ n ∉ rb_io r := by
      simp only [rb_io, List.nodup_append, List.nodup_cons] at nd
      exact ⟨fun z => nd.2.2 n z n (by simp) rfl, nd.2.1.1⟩
    rcases q with ⟨h1, h4, h5⟩ | ⟨h1, _⟩
    · exact Or.inr ⟨rb_set_on, h, rfl, rb_TB_cg l h h4 (fun k hk => rb_set_off (fun (z : k = n) => nl.1 (z ▸ hk))) z0, rb_TB_cg r h h5 (fun k hk => rb_set_off (fun (z : k = n) => nl.2 (z ▸ hk))) z0⟩
    · exact absurd (h1.symm.trans b) (by decide)
theorem rb_at_plug : ∀ (C : List rb_F) (t : rb_T), C ≠ [] → rb_at (rb_plug C t) ∈ rb_cn C := by
  intro C
  induction C with
  | nil => intro t h; exact absurd rfl h
  | cons f C ih =>
    obtain ⟨d, p, s⟩ := f
    intro t _
    cases C with
    | nil =>
      show rb_at (rb_mk d p t s) ∈ _
      rw [rb_at_mk]; simp [rb_cn]
    | cons g C =>
      have := ih (rb_mk d p t s) (by simp)
      exact List.mem_cons_of_mem _ (List.mem_append_right _ this)
section
variable {root free : Nat} {cur : Int32} {ch : Bool → Nat → Nat} {pa : Nat → Nat} {rd : Nat → Bool} {key val sz : Nat → Int32} {tot : Nat → Int64}
theorem rb_sr_exit {post : St1 → Prop} {n step f : Nat} (hn : n ≤ 48) (hr : root ≤ 48) (hc : n = root ∨ rd n = true) (hf : 0 < f)
    (h : post (rb_st root free cur ch pa (rb_set rd n false) key val sz tot)) :
    wX_settleRemoved_4 post f (nI n) (nI step) (nI root) (nI free) cur (fun k => nI (ch false k)) (fun k => nI (ch true k)) (fun k => nI (pa k)) (fun k => rb_bI (rd k)) key val sz tot := by
  obtain ⟨f, rfl⟩ : ∃ g, f = g + 1 := ⟨f - 1, by omega⟩
  have E : upd (fun k => rb_bI (rd k)) (nI n).toNatClampNeg 0 = fun k => rb_bI (rb_set rd n false k) := by
    rw [rb_cl48 hn]; exact rb_upB rd n false
  refine br_c (fun _ => ⟨rb_in48 hn, nm_r E h⟩) (fun _ => ?_)
  by_cases z : n = root
  · exact br_t (by rw [z]) ⟨rb_in48 hn, nm_r E h⟩
  · have hc' : rd n = true := by
      rcases hc with y | y
      · exact absurd y z
      · exact y
    exact br_f (by rw [rb_eq48 hn hr]; exact z) ⟨rb_in48 hn, br_f (by simp only [rb_cl48 hn, hc']; decide) ⟨rb_in48 hn, nm_r E h⟩⟩
theorem rb_w_sr75 {post : St1 → Prop} {d : Bool} {n p step f : Nat} (hs : step < 48) (hn : n ≤ 48) (hr : root ≤ 48) (hp : ∀ k, pa k ≤ 48) (hc : ∀ e k, ch e k ≤ 48) (e1 : pa n = p) (nr : n ≠ root) (hb : rd n = false) (hd : ch false p = n ↔ d = false)
    (h : wX_settleRemoved_75 post (wX_settleRemoved_4 post f) (nI step) (nI p) (rb_bI (!d)) (nI (ch (!d) p)) (nI root) (nI free) cur (fun k => nI (ch false k)) (fun k => nI (ch true k)) (fun k => nI (pa k)) (fun k => rb_bI (rd k)) key val sz tot) :
    wX_settleRemoved_4 post (f + 1) (nI n) (nI step) (nI root) (nI free) cur (fun k => nI (ch false k)) (fun k => nI (ch true k)) (fun k => nI (pa k)) (fun k => rb_bI (rd k)) key val sz tot := by
  have p48 : p ≤ 48 := by rw [← e1]; exact hp n
  refine br_f (nI_ge (b := 48) (by omega) (by omega)) (br_f (by rw [rb_eq48 hn hr]; exact nr) ⟨rb_in48 hn, br_t (by simp only [rb_cl48 hn, hb]; rfl) ⟨rb_in48 hn, nm_r (e' := nI p) (by simp only [rb_cl48 hn, e1]) ⟨rb_in48 p48, ?_⟩⟩⟩)
  cases d with
  | false =>
    refine br_t (by simp only [rb_cl48 p48]; rw [hd.mpr rfl]) ?_
    unfold wX_settleRemoved_51
    refine br_f (by decide) ⟨rb_in48 p48, ?_⟩
    rw [rb_cl48 p48]
    exact h
  | true =>
    refine br_f (by simp only [rb_cl48 p48]; rw [rb_eq48 (hc _ _) hn, hd]; decide) ?_
    unfold wX_settleRemoved_51
    refine br_t (by decide) ⟨rb_in48 p48, ?_⟩
    rw [rb_cl48 p48]
    exact h
theorem rb_w_sr135 {post : St1 → Prop} {e : Bool} {p o step f : Nat} (ho : o ≤ 48) (hc : ∀ e k, ch e k ≤ 48)
    (h1 : rd (ch false o) = false → rd (ch true o) = false → wX_settleRemoved_4 post f (nI p) (nI (step + 1)) (nI root) (nI free) cur (fun k => nI (ch false k)) (fun k => nI (ch true k)) (fun k => nI (pa k)) (fun k => rb_bI (rb_set rd o true k)) key val sz tot)
    (h2 : ¬ (rd (ch false o) = false ∧ rd (ch true o) = false) → wpX_settleBySister (fun u => match u with | (v1, v2, v3, v4, v5, v6, v7, v8, v9, v10, v11) => ∀ x3 : Int32, x3 = nI step + 1 → wX_settleRemoved_4 post f v1 x3 v1 v2 v3 v4 v5 v6 v7 v8 v9 v10 v11) (rb_st root free cur ch pa rd key val sz tot) (nI p) (nI o) (rb_bI e)) :
    wX_settleRemoved_135 post (wX_settleRemoved_4 post f) (nI step) (nI p) (rb_bI e) (nI o) (nI root) (nI free) cur (fun k => nI (ch false k)) (fun k => nI (ch true k)) (fun k => nI (pa k)) (fun k => rb_bI (rd k)) key val sz tot := by
  have E : upd (fun k => rb_bI (rd k)) (nI o).toNatClampNeg 1 = fun k => rb_bI (rb_set rd o true k) := by
    rw [rb_cl48 ho]; exact rb_upB rd o true
  unfold wX_settleRemoved_135
  refine ⟨rb_in48 ho, by simp only [rb_cl48 ho]; exact rb_in48 (hc _ _), ?_⟩
  cases zl : rd (ch false o) with
  | true =>
    refine br_f (by simp only [rb_cl48 ho, rb_cl48 (hc _ _), zl]; decide) ?_
    unfold wX_settleRemoved_179
    exact h2 (fun q => absurd (zl.symm.trans q.1) (by decide))
  | false =>
    refine br_t (by simp only [rb_cl48 ho, rb_cl48 (hc _ _), zl]; rfl) ⟨rb_in48 ho, by simp only [rb_cl48 ho]; exact rb_in48 (hc _ _), ?_⟩
    cases zr : rd (ch true o) with
    | true =>
      refine br_f (by simp only [rb_cl48 ho, rb_cl48 (hc _ _), zr]; decide) ?_
      unfold wX_settleRemoved_179
      exact h2 (fun q => absurd (zr.symm.trans q.2) (by decide))
    | false =>
      exact br_t (by simp only [rb_cl48 ho, rb_cl48 (hc _ _), zr]; rfl) ⟨rb_in48 ho, nm_r E (nm_r (nI_1 step) (h1 zl zr))⟩
/-- the red node at the hole: painted black, done -/
theorem rb_sr_red {post : St1 → Prop} {C : List rb_F} {t : rb_T} {n h step f : Nat} (w : rb_W root ch pa val sz tot (rb_plug C t)) (en : rb_at t = n) (h0 : rd 0 = false) (hr : rd n = true) (tw : rb_TW rd t h) (cb : rb_CB rd C false (h + 1)) (hf : 0 < f)
    (H : ∀ root' ch' pa' rd' sz' tot' T', rb_W root' ch' pa' val sz' tot' T' → rb_io T' = rb_io (rb_plug C t) → rb_OK rd' T' → rd' 0 = false → (∀ k, k ∉ rb_io (rb_plug C t) → pa' k = pa k) → post (rb_st root' free cur ch' pa' rd' key val sz' tot')) :
    wX_settleRemoved_4 post f (nI n) (nI step) (nI root) (nI free) cur (fun k => nI (ch false k)) (fun k => nI (ch true k)) (fun k => nI (pa k)) (fun k => rb_bI (rd k)) key val sz tot := by
  subst en
  obtain ⟨wv, wz⟩ := id w
  obtain ⟨w1, w2, w3, w4, w5, w6⟩ := id wv
  have n0 : rb_at t ≠ 0 := fun z => by rw [z, h0] at hr; exact absurd hr (by decide)
  have nm := rb_at_mem n0
  have n48 : rb_at t ≤ 48 := w4 _ ((rb_perm C t).mem_iff.mpr (List.mem_append_left _ nm))
  have nd := List.nodup_append.mp (rb_nd w3)
  have z0 : rb_set rd (rb_at t) false 0 = rd 0 := by rw [h0]; exact rb_set_0 h0 (Or.inr rfl)
  refine rb_sr_exit n48 (rb_root48 wv) (Or.inr hr) hf (H _ _ _ _ _ _ _ w rfl ((rb_TB_plug C t).mpr ⟨h + 1, rb_TW_red tw h0 hr nd.1, ?_⟩) (z0.trans h0) (fun _ _ => rfl))
  rw [rb_set_on]
  exact rb_CB_cg C _ _ cb (fun k hk => rb_set_off (fun z => nd.2.2 _ nm _ hk z.symm)) z0
/-- the sister is black -/
theorem rb_sr_blk {post : St1 → Prop} {C : List rb_F} {e : Bool} {p o h step f : Nat} {out inn t : rb_T} (w : rb_W root ch pa val sz tot (rb_plug C (rb_mk e p (rb_mk e o out inn) t))) (h0 : rd 0 = false) (tt : rb_TB rd t h) (to : rb_TB rd out h) (ti : rb_TB rd inn h)
    (cb : (rd p = true ∧ rb_CB rd C true (h + 1)) ∨ (rd p = false ∧ rb_CB rd C false (h + 2))) (hf : 0 < f)
    (K : ∀ rd' h', rd' 0 = false → rd' p = rd p → rb_TW rd' (rb_mk e p (rb_mk e o out inn) t) h' → rb_CB rd' C false (h' + 1) → wX_settleRemoved_4 post f (nI p) (nI (step + 1)) (nI root) (nI free) cur (fun k => nI (ch false k)) (fun k => nI (ch true k)) (fun k => nI (pa k)) (fun k => rb_bI (rd' k)) key val sz tot)
    (H : ∀ root' ch' pa' rd' sz' tot' T', rb_W root' ch' pa' val sz' tot' T' → rb_io T' = rb_io (rb_plug C (rb_mk e p (rb_mk e o out inn) t)) → rb_OK rd' T' → rd' 0 = false → (∀ k, k ∉ rb_io (rb_plug C (rb_mk e p (rb_mk e o out inn) t)) → pa' k = pa k) → post (rb_st root' free cur ch' pa' rd' key val sz' tot')) :
    wX_settleRemoved_135 post (wX_settleRemoved_4 post f) (nI step) (nI p) (rb_bI e) (nI o) (nI root) (nI free) cur (fun k => nI (ch false k)) (fun k => nI (ch true k)) (fun k => nI (pa k)) (fun k => rb_bI (rd k)) key val sz tot := by
  obtain ⟨wv, wz⟩ := id w
  obtain ⟨w1, w2, w3, w4, w5, w6⟩ := id wv
  have P := rb_perm2 C e p o out inn t
  obtain ⟨hpo, ⟨pO, pI, pT, pN⟩, ⟨oO, oI, oT, oN⟩, dO, dI, dT, ndI, ndN⟩ := rb_nd5 (P.nodup_iff.mp w3)
  have o48 : o ≤ 48 := w4 o (P.mem_iff.mpr (by simp))
  obtain ⟨_, tp⟩ := (rb_TS_plug C _).mp ⟨w1, w2⟩
  obtain ⟨p1, p2, p3, p4, p5, p6⟩ := (rb_TS_mk e p _ t _).mp tp
  obtain ⟨o1, o2, o3, o4, o5, o6⟩ := (rb_TS_mk e o out inn p).mp p5
  have both : (rd (ch false o) = false ∧ rd (ch true o) = false) ↔ (rd (rb_at out) = false ∧ rd (rb_at inn) = false) := by
    rw [← o3, ← o4]
    cases e
    · exact Iff.rfl
    · exact and_comm
  refine rb_w_sr135 o48 w5 (fun zl zr => ?_) (fun nb => ?_)
  · obtain ⟨ro, ri⟩ := both.mp ⟨zl, zr⟩
    have z0 : rb_set rd o true 0 = rd 0 := rb_set_off (by omega)
    have cu : ∀ (w : List Nat), o ∉ w → ∀ k, k ∈ w → rb_set rd o true k = rd k := fun w h1 k hk => rb_set_off (fun z => h1 (z ▸ hk))
    have ra : ∀ t : rb_T, o ∉ rb_io t → rd (rb_at t) = false → rb_set rd o true (rb_at t) = false := fun t h1 h3 => by
      by_cases z : rb_at t = 0
      · rw [z, z0, h0]
      · rw [cu _ h1 _ (rb_at_mem z), h3]
    have ts : rb_TB (rb_set rd o true) (rb_mk e o out inn) h := (rb_TB_red rb_set_on).mpr ⟨ra out oO ro, ra inn oI ri, rb_TB_cg out h to (cu _ oO) z0, rb_TB_cg inn h ti (cu _ oI) z0⟩
    have t2 : rb_TB (rb_set rd o true) t h := rb_TB_cg t h tt (cu _ oT) z0
    have pp : rb_set rd o true p = rd p := rb_set_off hpo
    rcases cb with ⟨c1, c2⟩ | ⟨c1, c2⟩
    · exact K _ h (z0.trans h0) pp (rb_TW_mk (Or.inl ⟨pp.trans c1, ts, t2⟩)) (rb_CB_f (rb_CB_cg C _ _ c2 (cu _ oN) z0))
    · exact K _ (h + 1) (z0.trans h0) pp (rb_TW_mk (Or.inr ⟨pp.trans c1, h, rfl, ts, t2⟩)) (rb_CB_cg C _ _ c2 (cu _ oN) z0)
  · refine rb_sis w h0 tt to ti (fun q => nb (both.mpr q)) cb (fun root' ch' pa' rd' sz' tot' T' y eio ok r0 off => nm_r (nI_1 step) ?_)
    obtain ⟨_, _, o2⟩ := id ok
    refine rb_sr_exit (rb_root48 y.1) (rb_root48 y.1) (Or.inl rfl) hf ?_
    rw [rb_set_id (by rw [y.1.1]; exact o2)]
    exact H _ _ _ _ _ _ _ y eio ok r0 off
end
section
variable {free : Nat} {cur : Int32} {key val : Nat → Int32}
theorem rb_sr {post : St1 → Prop} : ∀ (C : List rb_F) (root : Nat) (ch : Bool → Nat → Nat) (pa : Nat → Nat) (rd : Nat → Bool) (sz : Nat → Int32) (tot : Nat → Int64) (t : rb_T) (n h step f : Nat),
    rb_W root ch pa val sz tot (rb_plug C t) → rb_at t = n → pa n = rb_par C → rd 0 = false → rb_TW rd t h → rb_CB rd C false (h + 1) → step + C.length ≤ 48 → C.length + 1 < f →
    (∀ root' ch' pa' rd' sz' tot' T', rb_W root' ch' pa' val sz' tot' T' → rb_io T' = rb_io (rb_plug C t) → rb_OK rd' T' → rd' 0 = false → (∀ k, k ∉ rb_io (rb_plug C t) → pa' k = pa k) → post (rb_st root' free cur ch' pa' rd' key val sz' tot')) →
    wX_settleRemoved_4 post f (nI n) (nI step) (nI root) (nI free) cur (fun k => nI (ch false k)) (fun k => nI (ch true k)) (fun k => nI (pa k)) (fun k => rb_bI (rd k)) key val sz tot := by
  intro C
  induction C with
  | nil =>
    intro root ch pa rd sz tot t n h step f w en ep h0 tw cb hs hf H
    obtain ⟨wv, wz⟩ := id w
    obtain ⟨w1, w2, w3, w4, w5, w6⟩ := id wv
    have er : n = root := en.symm.trans w1.symm
    cases hr : rd n with
    | true => exact rb_sr_red w en h0 hr tw cb (by omega) H
    | false =>
      refine rb_sr_exit (by rw [er]; exact rb_root48 wv) (rb_root48 wv) (Or.inl er) (by omega) ?_
      rw [rb_set_id hr]
      have hr' : rd (rb_at t) = false := by rw [en]; exact hr
      exact H _ _ _ _ _ _ _ w rfl ⟨h, rb_TW_blk tw hr', hr'⟩ h0 (fun _ _ => rfl)
  | cons fr C ih =>
    obtain ⟨d, p, s⟩ := fr
    intro root ch pa rd sz tot t n h step f w en ep h0 tw cb hs hf H
    cases hr : rd n with
    | true => exact rb_sr_red w en h0 hr tw cb (by omega) H
    | false =>
      simp only [List.length_cons] at hs hf
      obtain ⟨f, rfl⟩ : ∃ g, f = g + 1 := ⟨f - 1, by omega⟩
      obtain ⟨wv, wz⟩ := id w
      obtain ⟨w1, w2, w3, w4, w5, w6⟩ := id wv
      have ep' : pa n = p := ep
      have tt : rb_TB rd t h := rb_TW_blk tw (by rw [en]; exact hr)
      have ts : rb_TB rd s (h + 1) := by
        rcases cb with ⟨_, _, _, q, _⟩ | ⟨_, q, _⟩ <;> exact q
      obtain ⟨o, out, inn, es⟩ := rb_TB_pos ts (!d)
      subst es
      have w' : rb_W root ch pa val sz tot (rb_plug C (rb_mk (!d) p (rb_mk (!d) o out inn) t)) := by
        rw [rb_mk_not d p]; exact w
      have eT : rb_plug ((d, p, rb_mk (!d) o out inn) :: C) t = rb_plug C (rb_mk (!d) p (rb_mk (!d) o out inn) t) := by
        rw [rb_mk_not d p]; rfl
      rw [eT] at H
      have P := rb_perm2 C (!d) p o out inn t
      have w3' : (rb_io (rb_plug C (rb_mk (!d) p (rb_mk (!d) o out inn) t))).Nodup := w'.1.2.2.1
      have w4' := w'.1.2.2.2.1
      obtain ⟨hpo, ⟨pO, pI, pT, pN⟩, ⟨oO, oI, oT, oN⟩, dO, dI, dT, ndI, ndN⟩ := rb_nd5 (P.nodup_iff.mp w3')
      have p48 : p ≤ 48 := w4' p (P.mem_iff.mpr (by simp))
      have o48 : o ≤ 48 := w4' o (P.mem_iff.mpr (by simp))
      obtain ⟨_, tp⟩ := (rb_TS_plug C _).mp ⟨w'.1.1, w'.1.2.1⟩
      obtain ⟨p1, p2, p3, p4, p5, p6⟩ := (rb_TS_mk (!d) p _ t _).mp tp
      rw [rb_at_mk] at p3
      rw [Bool.not_not, en] at p4
      obtain ⟨o1, o2, o3, o4, o5, o6⟩ := (rb_TS_mk (!d) o out inn p).mp p5
      have hno : o ≠ n := fun z => by
        by_cases y : n = 0
        · omega
        · exact oT (by rw [z, ← en]; exact rb_at_mem (by omega))
      have n48 : n ≤ 48 := by rw [← p4]; exact w5 _ _
      have nr : n ≠ root := fun z => by
        have m1 := rb_at_plug ((d, p, rb_mk (!d) o out inn) :: C) t (by simp)
        rw [← w1, ← z] at m1
        have nd := List.nodup_append.mp (rb_nd w3)
        by_cases y : n = 0
        · have := rb_TS_pos w2 n ((rb_perm _ t).mem_iff.mpr (List.mem_append_right _ m1))
          omega
        · exact nd.2.2 n (by rw [← en]; exact rb_at_mem (by omega)) n m1 rfl
      have hd : ch false p = n ↔ d = false := by
        cases d with
        | false => exact ⟨fun _ => rfl, fun _ => p4⟩
        | true =>
          have p3' : ch false p = o := p3
          rw [p3']
          exact ⟨fun z => absurd z hno, fun z => absurd z (by decide)⟩
      refine rb_w_sr75 (d := d) (by omega) n48 (rb_root48 wv) w6 w5 ep' nr hr hd ?_
      unfold wX_settleRemoved_75
      rw [p3]
      refine ⟨rb_in48 o48, ?_⟩
      cases ro : rd o with
      | false =>
        obtain ⟨to, ti⟩ := (rb_TB_blk ro).mp ts
        refine br_t (by simp only [rb_cl48 o48, ro]; rfl) ?_
        refine rb_sr_blk w' h0 tt to ti ?_ (by omega) (fun rd' h' r0 rp tw' cb' => ?_) H
        · rcases cb with ⟨c1, _, _, _, c2⟩ | ⟨c1, _, c2⟩
          · exact Or.inl ⟨c1, c2⟩
          · exact Or.inr ⟨c1, c2⟩
        · exact ih root ch pa rd' sz tot _ p h' (step + 1) f w' (rb_at_mk _ _ _ _) p2 r0 tw' cb' (by omega) (by omega) H
      | true =>
        obtain ⟨ru, ri, to, ti⟩ := (rb_TB_red ro).mp ts
        obtain ⟨rp, cb1⟩ : rd p = false ∧ rb_CB rd C false (h + 2) := by
          rcases cb with ⟨_, _, c1, _⟩ | ⟨c1, _, c2⟩
          · rw [rb_at_mk] at c1; exact absurd (ro.symm.trans c1) (by decide)
          · exact ⟨c1, c2⟩
        refine br_f (by simp only [rb_cl48 o48, ro]; decide) ⟨rb_in48 o48, nm_r (e' := fun k => rb_bI (rb_set rd o false k)) (by rw [rb_cl48 o48]; exact rb_upB _ _ false) ⟨rb_in48 p48, nm_r (e' := fun k => rb_bI (rb_set (rb_set rd o false) p true k)) (by rw [rb_cl48 p48]; exact rb_upB _ _ true) ?_⟩⟩
        obtain ⟨r2, e2⟩ : ∃ x, x = rb_set (rb_set rd o false) p true := ⟨_, rfl⟩
        rw [← e2]
        refine rb_turn (rd := r2) w' (fun root' ch' pa' sz' tot' y offp => ?_)
        have off : ∀ k, k ≠ o → k ≠ p → r2 k = rd k := fun k k1 k2 => by rw [e2, rb_set_off k2, rb_set_off k1]
        have z0 : r2 0 = rd 0 := off 0 (by omega) (by omega)
        have cu : ∀ (w : List Nat), o ∉ w → p ∉ w → ∀ k, k ∈ w → r2 k = rd k := fun w h1 h2 k hk => off k (fun z => h1 (z ▸ hk)) (fun z => h2 (z ▸ hk))
        have r2p : r2 p = true := by rw [e2, rb_set_on]
        have r2o : r2 o = false := by rw [e2, rb_set_off (Ne.symm hpo), rb_set_on]
        have ti2 : rb_TB r2 inn (h + 1) := rb_TB_cg inn _ ti (cu _ oI pI) z0
        have ri2 : r2 (rb_at inn) = false := by
          by_cases z : rb_at inn = 0
          · rw [z, z0, h0]
          · rw [cu _ oI pI _ (rb_at_mem z), ri]
        have eio := rb_io_plug_cg (C := C) (rb_io_turn (!d) p o out inn t)
        obtain ⟨o', out', inn', ei⟩ := rb_TB_pos ti2 (!d)
        subst ei
        rw [rb_at_mk] at ri2
        obtain ⟨to2, ti3⟩ := (rb_TB_blk ri2).mp ti2
        have y' : rb_W root' ch' pa' val sz' tot' (rb_plug ((d, o, out) :: C) (rb_mk (!d) p (rb_mk (!d) o' out' inn') t)) := by
          show rb_W root' ch' pa' val sz' tot' (rb_plug C (rb_mk d o (rb_mk (!d) p (rb_mk (!d) o' out' inn') t) out))
          rw [← rb_mk_not d o]; exact y
        have eT2 : rb_io (rb_plug ((d, o, out) :: C) (rb_mk (!d) p (rb_mk (!d) o' out' inn') t)) = rb_io (rb_plug C (rb_mk (!d) p (rb_mk (!d) o out (rb_mk (!d) o' out' inn')) t)) := by
          show rb_io (rb_plug C (rb_mk d o (rb_mk (!d) p (rb_mk (!d) o' out' inn') t) out)) = _
          rw [← rb_mk_not d o]; exact eio
        obtain ⟨_, tp'⟩ := (rb_TS_plug ((d, o, out) :: C) _).mp ⟨y'.1.1, y'.1.2.1⟩
        obtain ⟨_, _, q3, _, _, _⟩ := (rb_TS_mk (!d) p _ t _).mp tp'
        rw [rb_at_mk] at q3
        have key2 : wX_settleRemoved_135 post (wX_settleRemoved_4 post f) (nI step) (nI p) (rb_bI (!d)) (nI o') (nI root') (nI free) cur (fun k => nI (ch' false k)) (fun k => nI (ch' true k)) (fun k => nI (pa' k)) (fun k => rb_bI (r2 k)) key val sz' tot' := by
          have H' : ∀ root3 ch3 pa3 rd3 sz3 tot3 T3, rb_W root3 ch3 pa3 val sz3 tot3 T3 → rb_io T3 = rb_io (rb_plug ((d, o, out) :: C) (rb_mk (!d) p (rb_mk (!d) o' out' inn') t)) → rb_OK rd3 T3 → rd3 0 = false → (∀ k, k ∉ rb_io (rb_plug ((d, o, out) :: C) (rb_mk (!d) p (rb_mk (!d) o' out' inn') t)) → pa3 k = pa' k) → post (rb_st root3 free cur ch3 pa3 rd3 key val sz3 tot3) := by
            intro root3 ch3 pa3 rd3 sz3 tot3 T3 x1 x2 x3 x4 x5
            exact H _ _ _ _ _ _ _ x1 (x2.trans eT2) x3 x4 (fun k hk => by rw [x5 k (by rw [eT2]; exact hk), offp k hk])
          refine rb_sr_blk y' (z0.trans h0) (rb_TB_cg t h tt (cu _ oT pT) z0) to2 ti3 (Or.inl ⟨r2p, Or.inr ⟨r2o, rb_TB_cg out _ to (cu _ oO pO) z0, rb_CB_cg C _ _ cb1 (cu _ oN pN) z0⟩⟩) (by omega) (fun rd' h' r0 rp' tw' cb' => ?_) H'
          exact rb_sr_red y' (rb_at_mk _ _ _ _) r0 (rp'.trans r2p) tw' cb' (by omega) H'
        cases d with
        | true =>
          refine br_t rfl ⟨rb_in48 p48, ?_⟩
          have q3' : ch' false p = o' := q3
          simp only [rb_cl48 p48, q3']
          exact key2
        | false =>
          refine br_f (by decide) ⟨rb_in48 p48, ?_⟩
          have q3' : ch' true p = o' := q3
          simp only [rb_cl48 p48, q3']
          exact key2
end
end
section
/-! the searches, down from the root -/
def rb_So (key : Nat → Int32) (w : List Nat) : Prop := w.Pairwise (fun x y => key x < key y)
theorem rb_So_mid {key : Nat → Int32} {a b : List Nat} {n : Nat} (h : rb_So key (a ++ n :: b)) : rb_So key a ∧ rb_So key b ∧ (∀ x, x ∈ a → key x < key n) ∧ (∀ x, x ∈ b → key n < key x) := by
  unfold rb_So at h
  rw [List.pairwise_append, List.pairwise_cons] at h
  exact ⟨h.1, h.2.1.2, fun x hx => h.2.2 x hx n (by simp), fun x hx => h.2.1.1 x hx⟩
theorem rb_at_b (n : Nat) (l r : rb_T) : rb_at (.branch n l r) = n := rfl
theorem rb_io_b (n : Nat) (l r : rb_T) : rb_io (.branch n l r) = rb_io l ++ n :: rb_io r := rfl
section
variable {root free : Nat} {cur : Int32} {ch : Bool → Nat → Nat} {pa : Nat → Nat} {rd : Nat → Bool} {key val sz : Nat → Int32} {tot : Nat → Int64}
theorem rb_find_l {post : Int32 → Prop} {k : Int32} : ∀ (t : rb_T) (par step f : Nat), rb_TS ch pa t par → (∀ x, x ∈ rb_io t → x ≤ 48) → rb_So key (rb_io t) → step + (rb_io t).length ≤ 48 → (rb_io t).length < f →
    (∀ x, x ∈ rb_io t → key x = k → post (nI x)) → ((∀ x, x ∈ rb_io t → key x ≠ k) → post 0) →
    wX_find_7 post k (nI root) (nI free) cur (fun k => nI (ch false k)) (fun k => nI (ch true k)) (fun k => nI (pa k)) (fun k => rb_bI (rd k)) key val sz tot f (nI (rb_at t)) (nI step) := by
  intro t
  induction t with
  | leaf u =>
    intro par step f ts hb so hs hf H1 H2
    obtain ⟨f, rfl⟩ : ∃ g, f = g + 1 := ⟨f - 1, by omega⟩
    have Q := H2 (fun x hx => by simp [rb_io] at hx)
    exact br_c (fun _ => Q) (fun _ => br_t (show nI 0 ≤ 0 by decide) Q)
  | branch n l r ihl ihr =>
    intro par step f ts hb so hs hf H1 H2
    obtain ⟨t1, t2, t3, t4, t5, t6⟩ := ts
    rw [rb_at_b]
    rw [rb_io_b] at so hs hf hb H1 H2
    obtain ⟨sl, sr, kl, kr⟩ := rb_So_mid so
    simp only [List.length_append, List.length_cons] at hs hf
    simp only [List.mem_append, List.mem_cons] at hb H1 H2
    obtain ⟨f, rfl⟩ : ∃ g, f = g + 1 := ⟨f - 1, by omega⟩
    have n48 : n ≤ 48 := hb n (Or.inr (Or.inl rfl))
    refine br_f (nI_ge (b := 48) (by omega) (by omega)) (br_f (nI_nle t1 (by omega)) ⟨rb_in48 n48, ?_⟩)
    show ((key (nI n).toNatClampNeg = k → post (nI n)) ∧ _)
    rw [rb_cl48 n48]
    refine br_c (fun z => H1 n (Or.inr (Or.inl rfl)) z) (fun z => ⟨rb_in48 n48, br_c (fun y => ⟨rb_in48 n48, nm_r (e' := nI (rb_at r)) (by simp only [rb_cl48 n48, t4]) (nm_r (nI_1 step) ?_)⟩) (fun y => ⟨rb_in48 n48, nm_r (e' := nI (rb_at l)) (by simp only [rb_cl48 n48, t3]) (nm_r (nI_1 step) ?_)⟩)⟩)
    · refine ihr n (step + 1) f t6 (fun x hx => hb x (Or.inr (Or.inr hx))) sr (by omega) (by omega) (fun x hx => H1 x (Or.inr (Or.inr hx))) (fun q => H2 (fun x hx => ?_))
      rcases hx with hx | hx | hx
      · exact Int32.ne_of_lt (Int32.lt_of_lt_of_le (kl x hx) y)
      · rw [hx]; exact z
      · exact q x hx
    · refine ihl n (step + 1) f t5 (fun x hx => hb x (Or.inl hx)) sl (by omega) (by omega) (fun x hx => H1 x (Or.inl hx)) (fun q => H2 (fun x hx => ?_))
      rcases hx with hx | hx | hx
      · exact q x hx
      · rw [hx]; exact z
      · exact (Int32.ne_of_lt (Int32.lt_trans (Int32.not_le.mp y) (kr x hx))).symm
theorem rb_cnt0 {key : Nat → Int32} {k : Int32} {w : List Nat} (h : ∀ x, x ∈ w → ¬ key x < k) : w.countP (fun x => decide (key x < k)) = 0 := by
  rw [List.countP_eq_zero]
  intro x hx
  simpa using h x hx
theorem rb_cntA {key : Nat → Int32} {k : Int32} {w : List Nat} (h : ∀ x, x ∈ w → key x < k) : w.countP (fun x => decide (key x < k)) = w.length := by
  rw [List.countP_eq_length]
  intro x hx
  simpa using h x hx
theorem rb_flt0 {key : Nat → Int32} {k : Int32} {w : List Nat} (h : ∀ x, x ∈ w → ¬ key x < k) : w.filter (fun x => decide (key x < k)) = [] := by
  rw [List.filter_eq_nil_iff]
  intro x hx
  simpa using h x hx
theorem rb_fltA {key : Nat → Int32} {k : Int32} {w : List Nat} (h : ∀ x, x ∈ w → key x < k) : w.filter (fun x => decide (key x < k)) = w := by
  rw [List.filter_eq_self]
  intro x hx
  simpa using h x hx
theorem rb_below_l {post : Int32 → Prop} {k : Int32} (s0 : sz 0 = 0) : ∀ (t : rb_T) (par a step f : Nat), rb_TS ch pa t par → (∀ x, x ∈ rb_io t → x ≤ 48) → rb_TZ val sz tot t → rb_So key (rb_io t) → step + (rb_io t).length ≤ 48 → (rb_io t).length < f →
    post (nI (a + (rb_io t).countP (fun x => decide (key x < k)))) →
    wX_below_10 post k (nI root) (nI free) cur (fun k => nI (ch false k)) (fun k => nI (ch true k)) (fun k => nI (pa k)) (fun k => rb_bI (rd k)) key val sz tot f (nI a) (nI (rb_at t)) (nI step) := by
  intro t
  induction t with
  | leaf u =>
    intro par a step f ts hb tz so hs hf H
    obtain ⟨f, rfl⟩ : ∃ g, f = g + 1 := ⟨f - 1, by omega⟩
    exact br_c (fun _ => H) (fun _ => br_t (show nI 0 ≤ 0 by decide) H)
  | branch n l r ihl ihr =>
    intro par a step f ts hb tz so hs hf H
    obtain ⟨t1, t2, t3, t4, t5, t6⟩ := ts
    obtain ⟨z1, z2, z3, z4⟩ := tz
    rw [rb_at_b]
    rw [rb_io_b] at so hs hf hb H
    obtain ⟨sl, sr, kl, kr⟩ := rb_So_mid so
    simp only [List.length_append, List.length_cons] at hs hf
    simp only [List.mem_append, List.mem_cons] at hb
    rw [List.countP_append, List.countP_cons] at H
    obtain ⟨f, rfl⟩ : ∃ g, f = g + 1 := ⟨f - 1, by omega⟩
    have n48 : n ≤ 48 := hb n (Or.inr (Or.inl rfl))
    have l48 : rb_at l ≤ 48 := by
      by_cases z : rb_at l = 0
      · omega
      · exact hb _ (Or.inl (rb_at_mem z))
    refine br_f (nI_ge (b := 48) (by omega) (by omega)) (br_f (nI_nle t1 (by omega)) ⟨rb_in48 n48, ?_⟩)
    show ((k ≤ key (nI n).toNatClampNeg → _) ∧ (¬ k ≤ key (nI n).toNatClampNeg → _))
    rw [rb_cl48 n48]
    refine br_c (fun y => ⟨rb_in48 n48, nm_r (e' := nI (rb_at l)) (by simp only [rb_cl48 n48, t3]) (nm_r (nI_1 step) ?_)⟩) (fun y => ⟨rb_in48 n48, by simp only [rb_cl48 n48, t3]; exact rb_in48 l48, nm_r (e' := nI (a + ((rb_io l).length + 1))) ?_ ⟨rb_in48 n48, nm_r (e' := nI (rb_at r)) (by simp only [rb_cl48 n48, t4]) (nm_r (nI_1 step) ?_)⟩⟩)
    · refine ihl n a (step + 1) f t5 (fun x hx => hb x (Or.inl hx)) z3 sl (by omega) (by omega) ?_
      rw [rb_cnt0 (w := rb_io r) (fun x hx => Int32.not_lt.mpr (Int32.le_of_lt (Int32.lt_of_le_of_lt y (kr x hx)))), if_neg (by simpa using Int32.not_lt.mpr y)] at H
      exact H
    · simp only [rb_cl48 n48, t3, rb_cl48 l48, rb_sz_at z3 s0, nI_1, nI_add]
    · have y' := Int32.not_le.mp y
      refine ihr n _ (step + 1) f t6 (fun x hx => hb x (Or.inr (Or.inr hx))) z4 sr (by omega) (by omega) ?_
      rw [rb_cntA (w := rb_io l) (fun x hx => Int32.lt_trans (kl x hx) y'), if_pos (by simpa using y')] at H
      rw [show a + ((rb_io l).length + 1) + (rb_io r).countP (fun x => decide (key x < k)) = a + ((rb_io l).length + ((rb_io r).countP (fun x => decide (key x < k)) + 1)) by omega]
      exact H
theorem rb_sumb_l {post : Int64 → Prop} {k : Int32} (t0 : tot 0 = 0) : ∀ (t : rb_T) (par : Nat) (a : Int64) (step f : Nat), rb_TS ch pa t par → (∀ x, x ∈ rb_io t → x ≤ 48) → rb_TZ val sz tot t → rb_So key (rb_io t) → step + (rb_io t).length ≤ 48 → (rb_io t).length < f →
    post (a + rb_ls val ((rb_io t).filter (fun x => decide (key x < k)))) →
    wX_sumBelow_11 post k (nI root) (nI free) cur (fun k => nI (ch false k)) (fun k => nI (ch true k)) (fun k => nI (pa k)) (fun k => rb_bI (rd k)) key val sz tot f a (nI (rb_at t)) (nI step) := by
  intro t
  induction t with
  | leaf u =>
    intro par a step f ts hb tz so hs hf H
    obtain ⟨f, rfl⟩ : ∃ g, f = g + 1 := ⟨f - 1, by omega⟩
    simp only [rb_io, List.filter_nil, rb_ls] at H
    rw [show a + 0 = a by grind] at H
    exact br_c (fun _ => H) (fun _ => br_t (show nI 0 ≤ 0 by decide) H)
  | branch n l r ihl ihr =>
    intro par a step f ts hb tz so hs hf H
    obtain ⟨t1, t2, t3, t4, t5, t6⟩ := ts
    obtain ⟨z1, z2, z3, z4⟩ := tz
    rw [rb_at_b]
    rw [rb_io_b] at so hs hf hb H
    obtain ⟨sl, sr, kl, kr⟩ := rb_So_mid so
    simp only [List.length_append, List.length_cons] at hs hf
    simp only [List.mem_append, List.mem_cons] at hb
    rw [List.filter_append, List.filter_cons, rb_ls_app] at H
    obtain ⟨f, rfl⟩ : ∃ g, f = g + 1 := ⟨f - 1, by omega⟩
    have n48 : n ≤ 48 := hb n (Or.inr (Or.inl rfl))
    have l48 : rb_at l ≤ 48 := by
      by_cases z : rb_at l = 0
      · omega
      · exact hb _ (Or.inl (rb_at_mem z))
    refine br_f (nI_ge (b := 48) (by omega) (by omega)) (br_f (nI_nle t1 (by omega)) ⟨rb_in48 n48, ?_⟩)
    show ((k ≤ key (nI n).toNatClampNeg → _) ∧ (¬ k ≤ key (nI n).toNatClampNeg → _))
    rw [rb_cl48 n48]
    refine br_c (fun y => ⟨rb_in48 n48, nm_r (e' := nI (rb_at l)) (by simp only [rb_cl48 n48, t3]) (nm_r (nI_1 step) ?_)⟩) (fun y => ⟨rb_in48 n48, by simp only [rb_cl48 n48, t3]; exact rb_in48 l48, rb_in48 n48, nm_r (e' := a + (rb_ls val (rb_io l) + (val n).toInt64)) ?_ ⟨rb_in48 n48, nm_r (e' := nI (rb_at r)) (by simp only [rb_cl48 n48, t4]) (nm_r (nI_1 step) ?_)⟩⟩)
    · refine ihl n a (step + 1) f t5 (fun x hx => hb x (Or.inl hx)) z3 sl (by omega) (by omega) ?_
      rw [rb_flt0 (w := rb_io r) (fun x hx => Int32.not_lt.mpr (Int32.le_of_lt (Int32.lt_of_le_of_lt y (kr x hx)))), if_neg (by simpa using Int32.not_lt.mpr y), show rb_ls val [] = 0 from rfl, show rb_ls val ((rb_io l).filter (fun x => decide (key x < k))) + 0 = rb_ls val ((rb_io l).filter (fun x => decide (key x < k))) by grind] at H
      exact H
    · simp only [rb_cl48 n48, t3, rb_cl48 l48, rb_tot_at z3 t0]
    · have y' := Int32.not_le.mp y
      refine ihr n _ (step + 1) f t6 (fun x hx => hb x (Or.inr (Or.inr hx))) z4 sr (by omega) (by omega) ?_
      rw [rb_fltA (w := rb_io l) (fun x hx => Int32.lt_trans (kl x hx) y'), if_pos (by simpa using y')] at H
      simp only [rb_ls] at H
      rw [show a + (rb_ls val (rb_io l) + (val n).toInt64) + rb_ls val ((rb_io r).filter (fun x => decide (key x < k))) = a + (rb_ls val (rb_io l) + ((val n).toInt64 + rb_ls val ((rb_io r).filter (fun x => decide (key x < k))))) by grind]
      exact H
end
end
section
section
variable {root free : Nat} {cur : Int32} {ch : Bool → Nat → Nat} {pa : Nat → Nat} {rd : Nat → Bool} {key val sz : Nat → Int32} {tot : Nat → Int64}
theorem rb_ceil_l {post : Int32 → Prop} {k : Int32} : ∀ (t : rb_T) (par step f best : Nat), rb_TS ch pa t par → (∀ x, x ∈ rb_io t → x ≤ 48) → rb_So key (rb_io t) → step + (rb_io t).length ≤ 48 → (rb_io t).length < f →
    (∀ x, (rb_io t).find? (fun x => decide (k ≤ key x)) = some x → post (nI x)) → ((rb_io t).find? (fun x => decide (k ≤ key x)) = none → post (nI best)) →
    wX_ceiling_10 post k (nI root) (nI free) cur (fun k => nI (ch false k)) (fun k => nI (ch true k)) (fun k => nI (pa k)) (fun k => rb_bI (rd k)) key val sz tot f (nI best) (nI (rb_at t)) (nI step) := by
  intro t
  induction t with
  | leaf u =>
    intro par step f best ts hb so hs hf H1 H2
    obtain ⟨f, rfl⟩ : ∃ g, f = g + 1 := ⟨f - 1, by omega⟩
    have Q := H2 rfl
    exact br_c (fun _ => Q) (fun _ => br_t (show nI 0 ≤ 0 by decide) Q)
  | branch n l r ihl ihr =>
    intro par step f best ts hb so hs hf H1 H2
    obtain ⟨t1, t2, t3, t4, t5, t6⟩ := ts
    rw [rb_at_b]
    rw [rb_io_b] at so hs hf hb H1 H2
    obtain ⟨sl, sr, kl, kr⟩ := rb_So_mid so
    simp only [List.length_append, List.length_cons] at hs hf
    simp only [List.mem_append, List.mem_cons] at hb
    rw [List.find?_append, List.find?_cons] at H1 H2
    obtain ⟨f, rfl⟩ : ∃ g, f = g + 1 := ⟨f - 1, by omega⟩
    have n48 : n ≤ 48 := hb n (Or.inr (Or.inl rfl))
    refine br_f (nI_ge (b := 48) (by omega) (by omega)) (br_f (nI_nle t1 (by omega)) ⟨rb_in48 n48, ?_⟩)
    show ((key (nI n).toNatClampNeg < k → _) ∧ (¬ key (nI n).toNatClampNeg < k → _))
    rw [rb_cl48 n48]
    refine br_c (fun y => ⟨rb_in48 n48, nm_r (e' := nI (rb_at r)) (by simp only [rb_cl48 n48, t4]) (nm_r (nI_1 step) ?_)⟩) (fun y => ⟨rb_in48 n48, nm_r (e' := nI (rb_at l)) (by simp only [rb_cl48 n48, t3]) (nm_r (nI_1 step) ?_)⟩)
    · have e1 : (rb_io l).find? (fun x => decide (k ≤ key x)) = none := by
        rw [List.find?_eq_none]
        intro x hx
        simpa using Int32.not_le.mpr (Int32.lt_trans (kl x hx) y)
      have e2 : decide (k ≤ key n) = false := by simpa using Int32.not_le.mpr y
      rw [e1, e2] at H1 H2
      exact ihr n (step + 1) f best t6 (fun x hx => hb x (Or.inr (Or.inr hx))) sr (by omega) (by omega) H1 H2
    · have e2 : decide (k ≤ key n) = true := by simpa using Int32.not_lt.mp y
      rw [e2] at H1 H2
      refine ihl n (step + 1) f n t5 (fun x hx => hb x (Or.inl hx)) sl (by omega) (by omega) (fun x hx => H1 x (by rw [hx]; rfl)) (fun q => H1 n (by rw [q]; rfl))
theorem rb_nodeAt_l {post : Int32 → Prop} (s0 : sz 0 = 0) : ∀ (t : rb_T) (par m step f : Nat), rb_TS ch pa t par → (∀ x, x ∈ rb_io t → x ≤ 48) → rb_TZ val sz tot t → m ≤ 48 → step + (rb_io t).length ≤ 48 → (rb_io t).length < f →
    (∀ a x b, rb_io t = a ++ x :: b → a.length = m → post (nI x)) → ((rb_io t).length ≤ m → post 0) →
    wX_nodeAt_10 post (nI root) (nI free) cur (fun k => nI (ch false k)) (fun k => nI (ch true k)) (fun k => nI (pa k)) (fun k => rb_bI (rd k)) key val sz tot f (nI m) (nI (rb_at t)) (nI step) := by
  intro t
  induction t with
  | leaf u =>
    intro par m step f ts hb tz hm hs hf H1 H2
    obtain ⟨f, rfl⟩ : ∃ g, f = g + 1 := ⟨f - 1, by omega⟩
    have Q := H2 (by simp [rb_io])
    exact br_c (fun _ => Q) (fun _ => br_t (show nI 0 ≤ 0 by decide) Q)
  | branch n l r ihl ihr =>
    intro par m step f ts hb tz hm hs hf H1 H2
    obtain ⟨t1, t2, t3, t4, t5, t6⟩ := ts
    obtain ⟨z1, z2, z3, z4⟩ := tz
    rw [rb_at_b]
    rw [rb_io_b] at hs hf hb H1 H2
    simp only [List.length_append, List.length_cons] at hs hf H2
    simp only [List.mem_append, List.mem_cons] at hb
    obtain ⟨f, rfl⟩ : ∃ g, f = g + 1 := ⟨f - 1, by omega⟩
    have n48 : n ≤ 48 := hb n (Or.inr (Or.inl rfl))
    have l48 : rb_at l ≤ 48 := by
      by_cases z : rb_at l = 0
      · omega
      · exact hb _ (Or.inl (rb_at_mem z))
    refine br_f (nI_ge (b := 48) (by omega) (by omega)) (br_f (nI_nle t1 (by omega)) ⟨rb_in48 n48, by simp only [rb_cl48 n48, t3]; exact rb_in48 l48, nm_r (e' := nI (rb_io l).length) (by simp only [rb_cl48 n48, t3, rb_cl48 l48, rb_sz_at z3 s0]) ?_⟩)
    refine pk_eq m (rb_io l).length (fun z => H1 _ n _ rfl z.symm) (fun z => pk_le (rb_io l).length m (fun y => nm_r (e' := nI (m - ((rb_io l).length + 1))) (by rw [nI_1, pk_sub (by omega)]) ⟨rb_in48 n48, nm_r (e' := nI (rb_at r)) (by simp only [rb_cl48 n48, t4]) (nm_r (nI_1 step) ?_)⟩) (fun y => ⟨rb_in48 n48, nm_r (e' := nI (rb_at l)) (by simp only [rb_cl48 n48, t3]) (nm_r (nI_1 step) ?_)⟩))
    · refine ihr n _ (step + 1) f t6 (fun x hx => hb x (Or.inr (Or.inr hx))) z4 (by omega) (by omega) (by omega) (fun a x b e q => H1 (rb_io l ++ n :: a) x b (by rw [e]; simp) (by simp only [List.length_append, List.length_cons]; omega)) (fun q => H2 (by omega))
    · refine ihl n m (step + 1) f t5 (fun x hx => hb x (Or.inl hx)) z3 hm (by omega) (by omega) (fun a x b e q => H1 a x (b ++ n :: rb_io r) (by rw [e]; simp) q) (fun q => absurd q (by omega))
theorem rb_first_l {post : Int32 → Prop} : ∀ (t : rb_T) (par step f : Nat), rb_TS ch pa t par → (∀ x, x ∈ rb_io t → x ≤ 48) → rb_at t ≠ 0 → step + (rb_io t).length ≤ 48 → (rb_io t).length < f →
    (∀ x b, rb_io t = x :: b → post (nI x)) →
    wX_first_4 post (nI root) (nI free) cur (fun k => nI (ch false k)) (fun k => nI (ch true k)) (fun k => nI (pa k)) (fun k => rb_bI (rd k)) key val sz tot f (nI (rb_at t)) (nI step) := by
  intro t
  induction t with
  | leaf u => intro par step f ts hb h0; exact absurd rfl h0
  | branch n l r ihl ihr =>
    intro par step f ts hb h0 hs hf H
    obtain ⟨t1, t2, t3, t4, t5, t6⟩ := ts
    rw [rb_at_b]
    rw [rb_io_b] at hs hf hb H
    simp only [List.length_append, List.length_cons] at hs hf
    simp only [List.mem_append, List.mem_cons] at hb
    obtain ⟨f, rfl⟩ : ∃ g, f = g + 1 := ⟨f - 1, by omega⟩
    have n48 : n ≤ 48 := hb n (Or.inr (Or.inl rfl))
    have l48 : rb_at l ≤ 48 := by
      by_cases z : rb_at l = 0
      · omega
      · exact hb _ (Or.inl (rb_at_mem z))
    refine br_f (nI_ge (b := 48) (by omega) (by omega)) ⟨rb_in48 n48, pk_le (rb_at l) 0 (fun z => ?_) (fun z => ⟨rb_in48 n48, nm_r (e' := nI (rb_at l)) (by simp only [rb_cl48 n48, t3]) (nm_r (nI_1 step) ?_)⟩) (hx := by simp only [rb_cl48 n48, t3])⟩
    · cases l with
      | leaf u => exact H n _ rfl
      | branch m a b =>
        have := t5.1
        simp only [rb_at] at z
        omega
    · refine ihl n (step + 1) f t5 (fun x hx => hb x (Or.inl hx)) (by omega) (by omega) (by omega) (fun x b e => H x (b ++ n :: rb_io r) (by rw [e]; rfl))
theorem rb_last_l {post : Int32 → Prop} : ∀ (t : rb_T) (par step f : Nat), rb_TS ch pa t par → (∀ x, x ∈ rb_io t → x ≤ 48) → rb_at t ≠ 0 → step + (rb_io t).length ≤ 48 → (rb_io t).length < f →
    (∀ x a, rb_io t = a ++ [x] → post (nI x)) →
    wX_nodeBefore_20 post (nI root) (nI free) cur (fun k => nI (ch false k)) (fun k => nI (ch true k)) (fun k => nI (pa k)) (fun k => rb_bI (rd k)) key val sz tot f (nI (rb_at t)) (nI step) := by
  intro t
  induction t with
  | leaf u => intro par step f ts hb h0; exact absurd rfl h0
  | branch n l r ihl ihr =>
    intro par step f ts hb h0 hs hf H
    obtain ⟨t1, t2, t3, t4, t5, t6⟩ := ts
    rw [rb_at_b]
    rw [rb_io_b] at hs hf hb H
    simp only [List.length_append, List.length_cons] at hs hf
    simp only [List.mem_append, List.mem_cons] at hb
    obtain ⟨f, rfl⟩ : ∃ g, f = g + 1 := ⟨f - 1, by omega⟩
    have n48 : n ≤ 48 := hb n (Or.inr (Or.inl rfl))
    have r48 : rb_at r ≤ 48 := by
      by_cases z : rb_at r = 0
      · omega
      · exact hb _ (Or.inr (Or.inr (rb_at_mem z)))
    refine br_f (nI_ge (b := 48) (by omega) (by omega)) ⟨rb_in48 n48, pk_le (rb_at r) 0 (fun z => ?_) (fun z => ⟨rb_in48 n48, nm_r (e' := nI (rb_at r)) (by simp only [rb_cl48 n48, t4]) (nm_r (nI_1 step) ?_)⟩) (hx := by simp only [rb_cl48 n48, t4])⟩
    · cases r with
      | leaf u => exact H n _ rfl
      | branch m a b =>
        have := t6.1
        simp only [rb_at] at z
        omega
    · refine ihr n (step + 1) f t6 (fun x hx => hb x (Or.inr (Or.inr hx))) (by omega) (by omega) (by omega) (fun x a e => H x (rb_io l ++ n :: a) (by rw [e]; simp))
theorem rb_behind_l {post : Int32 → Prop} : ∀ (C : List rb_F) (t : rb_T) (step f : Nat), rb_V root ch pa (rb_plug C t) → rb_at t ≠ 0 → step + C.length ≤ 48 → C.length < f →
    (∀ x b, rb_cr C = x :: b → post (nI x)) → (rb_cr C = [] → post 0) →
    wX_nodeBehind_24 post (nI root) (nI free) cur (fun k => nI (ch false k)) (fun k => nI (ch true k)) (fun k => nI (pa k)) (fun k => rb_bI (rd k)) key val sz tot f (nI (rb_at t)) (nI step) := by
  intro C
  induction C with
  | nil =>
    intro t step f v h0 hs hf H1 H2
    obtain ⟨f, rfl⟩ : ∃ g, f = g + 1 := ⟨f - 1, by omega⟩
    obtain ⟨v1, v2, v3, v4, v5, v6⟩ := v
    have n48 : rb_at t ≤ 48 := v4 _ (rb_at_mem h0)
    have p0 : pa (rb_at t) = 0 := by
      cases t with
      | leaf u => exact absurd rfl h0
      | branch n l r => exact v2.2.1
    have Q : vp_in (nI (rb_at t)) 49 ∧ post (nI (pa (nI (rb_at t)).toNatClampNeg)) := by
      rw [rb_cl48 n48, p0]
      exact ⟨rb_in48 n48, H2 rfl⟩
    exact br_c (fun _ => Q) (fun _ => ⟨rb_in48 n48, br_t (by simp only [rb_cl48 n48, p0]; decide) Q⟩)
  | cons fr C ih =>
    obtain ⟨d, p, s⟩ := fr
    intro t step f v h0 hs hf H1 H2
    simp only [List.length_cons] at hs hf
    obtain ⟨f, rfl⟩ : ∃ g, f = g + 1 := ⟨f - 1, by omega⟩
    obtain ⟨v1, v2, v3, v4, v5, v6⟩ := id v
    have nm := rb_at_mem h0
    have n48 : rb_at t ≤ 48 := v4 _ ((rb_perm _ t).mem_iff.mpr (List.mem_append_left _ nm))
    obtain ⟨cs, ts⟩ := (rb_TS_plug ((d, p, s) :: C) t).mp ⟨v1, v2⟩
    obtain ⟨c1, c2, c3, c4, c5, c6⟩ := cs
    have p0 : pa (rb_at t) = p := by
      cases t with
      | leaf u => exact absurd rfl h0
      | branch n l r => exact ts.2.1
    have p48 : p ≤ 48 := by rw [← p0]; exact v6 _
    have nd := List.nodup_append.mp (rb_nd v3)
    have sn : rb_at s ≠ rb_at t := fun z => nd.2.2 _ nm _ (by simp only [rb_cn, List.mem_cons, List.mem_append]; exact Or.inr (Or.inl (by rw [← z]; exact rb_at_mem (by omega)))) rfl
    refine br_f (nI_ge (b := 48) (by omega) (by omega)) ⟨rb_in48 n48, br_f (by simp only [rb_cl48 n48, p0]; exact nI_nle c1 (by omega)) ⟨rb_in48 n48, by simp only [rb_cl48 n48, p0]; exact rb_in48 p48, ?_⟩⟩
    simp only [rb_cl48 n48, p0, rb_cl48 p48]
    cases d with
    | true =>
      refine br_t (by rw [c2]) ⟨rb_in48 n48, nm_e (nm_r (nI_1 step) ?_)⟩
      have := ih (rb_mk true p t s) (step + 1) f v (by rw [rb_at_mk]; omega) (by omega) (by omega) H1 H2
      rw [rb_at_mk] at this
      exact this
    | false =>
      have c3' : ch true p = rb_at s := c3
      refine br_f (by rw [c3', rb_eq48 (by rw [← c3']; exact v5 _ _) n48]; exact sn) ⟨rb_in48 n48, H1 p _ rfl⟩
theorem rb_before_l {post : Int32 → Prop} : ∀ (C : List rb_F) (t : rb_T) (step f : Nat), rb_V root ch pa (rb_plug C t) → rb_at t ≠ 0 → step + C.length ≤ 48 → C.length < f →
    (∀ x a, rb_cl C = a ++ [x] → post (nI x)) → (rb_cl C = [] → post 0) →
    wX_nodeBefore_52 post (nI root) (nI free) cur (fun k => nI (ch false k)) (fun k => nI (ch true k)) (fun k => nI (pa k)) (fun k => rb_bI (rd k)) key val sz tot f (nI (rb_at t)) (nI step) := by
  intro C
  induction C with
  | nil =>
    intro t step f v h0 hs hf H1 H2
    obtain ⟨f, rfl⟩ : ∃ g, f = g + 1 := ⟨f - 1, by omega⟩
    obtain ⟨v1, v2, v3, v4, v5, v6⟩ := v
    have n48 : rb_at t ≤ 48 := v4 _ (rb_at_mem h0)
    have p0 : pa (rb_at t) = 0 := by
      cases t with
      | leaf u => exact absurd rfl h0
      | branch n l r => exact v2.2.1
    have Q : vp_in (nI (rb_at t)) 49 ∧ post (nI (pa (nI (rb_at t)).toNatClampNeg)) := by
      rw [rb_cl48 n48, p0]
      exact ⟨rb_in48 n48, H2 rfl⟩
    exact br_c (fun _ => Q) (fun _ => ⟨rb_in48 n48, br_t (by simp only [rb_cl48 n48, p0]; decide) Q⟩)
  | cons fr C ih =>
    obtain ⟨d, p, s⟩ := fr
    intro t step f v h0 hs hf H1 H2
    simp only [List.length_cons] at hs hf
    obtain ⟨f, rfl⟩ : ∃ g, f = g + 1 := ⟨f - 1, by omega⟩
    obtain ⟨v1, v2, v3, v4, v5, v6⟩ := id v
    have nm := rb_at_mem h0
    have n48 : rb_at t ≤ 48 := v4 _ ((rb_perm _ t).mem_iff.mpr (List.mem_append_left _ nm))
    obtain ⟨cs, ts⟩ := (rb_TS_plug ((d, p, s) :: C) t).mp ⟨v1, v2⟩
    obtain ⟨c1, c2, c3, c4, c5, c6⟩ := cs
    have p0 : pa (rb_at t) = p := by
      cases t with
      | leaf u => exact absurd rfl h0
      | branch n l r => exact ts.2.1
    have p48 : p ≤ 48 := by rw [← p0]; exact v6 _
    have nd := List.nodup_append.mp (rb_nd v3)
    have sn : rb_at s ≠ rb_at t := fun z => nd.2.2 _ nm _ (by simp only [rb_cn, List.mem_cons, List.mem_append]; exact Or.inr (Or.inl (by rw [← z]; exact rb_at_mem (by omega)))) rfl
    refine br_f (nI_ge (b := 48) (by omega) (by omega)) ⟨rb_in48 n48, br_f (by simp only [rb_cl48 n48, p0]; exact nI_nle c1 (by omega)) ⟨rb_in48 n48, by simp only [rb_cl48 n48, p0]; exact rb_in48 p48, ?_⟩⟩
    simp only [rb_cl48 n48, p0, rb_cl48 p48]
    cases d with
    | false =>
      refine br_t (by rw [c2]) ⟨rb_in48 n48, nm_e (nm_r (nI_1 step) ?_)⟩
      have := ih (rb_mk false p t s) (step + 1) f v (by rw [rb_at_mk]; omega) (by omega) (by omega) (fun x a e => H1 x a (by simp only [rb_cl, List.append_nil]; exact e)) (fun e => H2 (by simp only [rb_cl, List.append_nil]; exact e))
      rw [rb_at_mk] at this
      exact this
    | true =>
      have c3' : ch false p = rb_at s := c3
      refine br_f (by rw [c3', rb_eq48 (by rw [← c3']; exact v5 _ _) n48]; exact sn) ⟨rb_in48 n48, H1 p (rb_cl C ++ rb_io s) (by simp [rb_cl])⟩
end
end
section
/-! the methods that only read -/
def rb_R (root : Nat) (ch : Bool → Nat → Nat) (pa : Nat → Nat) (key val sz : Nat → Int32) (tot : Nat → Int64) (T : rb_T) : Prop := rb_W root ch pa val sz tot T ∧ rb_So key (rb_io T) ∧ val 0 = 0
def rb_lo (key : Nat → Int32) (w : List Nat) (k : Int32) : Nat := w.countP (fun x => decide (key x < k))
def rb_ct (key : Nat → Int32) (w : List Nat) (a b : Int32) : Nat := w.countP (fun x => decide (a ≤ key x ∧ key x ≤ b))
def rb_sl (key val : Nat → Int32) (w : List Nat) (k : Int32) : Int64 := rb_ls val (w.filter (fun x => decide (key x < k)))
def rb_sm (key val : Nat → Int32) (w : List Nat) (a b : Int32) : Int64 := rb_ls val (w.filter (fun x => decide (a ≤ key x ∧ key x ≤ b)))
theorem rb_ltI {a b : Int32} : a < b ↔ a.toInt < b.toInt := Int32.lt_iff_toInt_lt
theorem rb_leI {a b : Int32} : a ≤ b ↔ a.toInt ≤ b.toInt := Int32.le_iff_toInt_le
/-- a key that is there -/
theorem rb_ct_in {key : Nat → Int32} {w : List Nat} {a k : Int32} {x : Nat} (so : rb_So key w) (hx : x ∈ w) (hk : key x = k) (ha : a ≤ k) : rb_lo key w k + 1 = rb_lo key w a + rb_ct key w a k := by
  induction w with
  | nil => simp at hx
  | cons y w ih =>
    have so' := List.pairwise_cons.mp so
    unfold rb_lo rb_ct at *
    simp only [List.countP_cons]
    rcases List.mem_cons.mp hx with e | hx
    · subst e
      have e1 : w.countP (fun x => decide (key x < k)) = 0 := rb_cnt0 (fun z hz => Int32.not_lt.mpr (Int32.le_of_lt (hk ▸ so'.1 z hz)))
      have e2 : w.countP (fun x => decide (key x < a)) = 0 := rb_cnt0 (fun z hz => Int32.not_lt.mpr (Int32.le_trans ha (Int32.le_of_lt (hk ▸ so'.1 z hz))))
      have e3 : w.countP (fun x => decide (a ≤ key x ∧ key x ≤ k)) = 0 := by
        rw [List.countP_eq_zero]
        intro z hz
        have h1 := so'.1 z hz
        rw [hk] at h1
        simp only [decide_eq_true_eq, not_and]
        exact fun _ => Int32.not_le.mpr h1
      rw [e1, e2, e3, hk, if_neg (by simp [Int32.lt_irrefl]), if_neg (by simpa using Int32.not_lt.mpr ha), if_pos (show decide (a ≤ k ∧ k ≤ k) = true from decide_eq_true ⟨ha, Int32.le_refl k⟩)]
    · have i := ih so'.2 hx
      have h1 := so'.1 x hx
      rw [hk] at h1
      rw [if_pos (by simpa using h1)]
      by_cases z : key y < a
      · rw [if_pos (by simpa using z), if_neg (by simp only [decide_eq_true_eq, not_and]; exact fun q => absurd q (Int32.not_le.mpr z))]
        omega
      · rw [if_neg (by simpa using z), if_pos (by simpa using ⟨Int32.not_lt.mp z, Int32.le_of_lt h1⟩)]
        omega
/-- a key that isn't there -/
theorem rb_ct_out {key : Nat → Int32} {w : List Nat} {a k : Int32} (hx : ∀ x, x ∈ w → key x ≠ k) (ha : a ≤ k) : rb_lo key w k = rb_lo key w a + rb_ct key w a k := by
  induction w with
  | nil => rfl
  | cons y w ih =>
    have i := ih (fun x h => hx x (by simp [h]))
    have hy := hx y (by simp)
    unfold rb_lo rb_ct at *
    simp only [List.countP_cons]
    by_cases z : key y < a
    · rw [if_pos (by simpa using Int32.lt_of_lt_of_le z ha), if_pos (by simpa using z), if_neg (by simp only [decide_eq_true_eq, not_and]; exact fun q => absurd q (Int32.not_le.mpr z))]
      omega
    · have z' := Int32.not_lt.mp z
      by_cases q : key y < k
      · rw [if_pos (by simpa using q), if_neg (by simpa using z), if_pos (by simpa using ⟨z', Int32.le_of_lt q⟩)]
        omega
      · have q' : ¬ key y ≤ k := fun h => q (Int32.lt_of_le_of_ne h hy)
        rw [if_neg (by simpa using q), if_neg (by simpa using z), if_neg (by simp only [decide_eq_true_eq, not_and]; exact fun _ => q')]
        omega
theorem rb_sm_in {key val : Nat → Int32} {w : List Nat} {a k : Int32} {x : Nat} (so : rb_So key w) (hx : x ∈ w) (hk : key x = k) (ha : a ≤ k) : rb_sl key val w k + (val x).toInt64 = rb_sl key val w a + rb_sm key val w a k := by
  induction w with
  | nil => simp at hx
  | cons y w ih =>
    have so' := List.pairwise_cons.mp so
    unfold rb_sl rb_sm at *
    simp only [List.filter_cons]
    rcases List.mem_cons.mp hx with e | hx
    · subst e
      have e1 : w.filter (fun x => decide (key x < k)) = [] := rb_flt0 (fun z hz => Int32.not_lt.mpr (Int32.le_of_lt (hk ▸ so'.1 z hz)))
      have e2 : w.filter (fun x => decide (key x < a)) = [] := rb_flt0 (fun z hz => Int32.not_lt.mpr (Int32.le_trans ha (Int32.le_of_lt (hk ▸ so'.1 z hz))))
      have e3 : w.filter (fun x => decide (a ≤ key x ∧ key x ≤ k)) = [] := by
        rw [List.filter_eq_nil_iff]
        intro z hz
        have h1 := so'.1 z hz
        rw [hk] at h1
        simp only [decide_eq_true_eq, not_and]
        exact fun _ => Int32.not_le.mpr h1
      rw [e1, e2, e3, hk, if_neg (by simp [Int32.lt_irrefl]), if_neg (by simpa using Int32.not_lt.mpr ha), if_pos (show decide (a ≤ k ∧ k ≤ k) = true from decide_eq_true ⟨ha, Int32.le_refl k⟩)]
      simp only [rb_ls]
      grind
    · have i := ih so'.2 hx
      have h1 := so'.1 x hx
      rw [hk] at h1
      rw [if_pos (by simpa using h1)]
      by_cases z : key y < a
      · rw [if_pos (by simpa using z), if_neg (by simp only [decide_eq_true_eq, not_and]; exact fun q => absurd q (Int32.not_le.mpr z))]
        simp only [rb_ls]
        grind
      · rw [if_neg (by simpa using z), if_pos (by simpa using ⟨Int32.not_lt.mp z, Int32.le_of_lt h1⟩)]
        simp only [rb_ls]
        grind
theorem rb_sm_out {key val : Nat → Int32} {w : List Nat} {a k : Int32} (hx : ∀ x, x ∈ w → key x ≠ k) (ha : a ≤ k) : rb_sl key val w k = rb_sl key val w a + rb_sm key val w a k := by
  induction w with
  | nil => simp [rb_sl, rb_sm, rb_ls]
  | cons y w ih =>
    have i := ih (fun x h => hx x (by simp [h]))
    have hy := hx y (by simp)
    unfold rb_sl rb_sm at *
    simp only [List.filter_cons]
    by_cases z : key y < a
    · rw [if_pos (by simpa using Int32.lt_of_lt_of_le z ha), if_pos (by simpa using z), if_neg (by simp only [decide_eq_true_eq, not_and]; exact fun q => absurd q (Int32.not_le.mpr z))]
      simp only [rb_ls]
      grind
    · have z' := Int32.not_lt.mp z
      by_cases q : key y < k
      · rw [if_pos (by simpa using q), if_neg (by simpa using z), if_pos (by simpa using ⟨z', Int32.le_of_lt q⟩)]
        simp only [rb_ls]
        grind
      · have q' : ¬ key y ≤ k := fun h => q (Int32.lt_of_le_of_ne h hy)
        rw [if_neg (by simpa using q), if_neg (by simpa using z), if_neg (by simp only [decide_eq_true_eq, not_and]; exact fun _ => q')]
        exact i
section
variable {root free : Nat} {cur : Int32} {ch : Bool → Nat → Nat} {pa : Nat → Nat} {rd : Nat → Bool} {key val sz : Nat → Int32} {tot : Nat → Int64} {T : rb_T}
theorem rb_find {post : Int32 → Prop} {k : Int32} (r : rb_R root ch pa key val sz tot T) (H1 : ∀ x, x ∈ rb_io T → key x = k → post (nI x)) (H2 : (∀ x, x ∈ rb_io T → key x ≠ k) → post 0) : wpX_find post (rb_st root free cur ch pa rd key val sz tot) k := by
  obtain ⟨⟨⟨v1, v2, v3, v4, v5, v6⟩, tz, s0, t0⟩, so, v0⟩ := r
  have hl := rb_len48 v3 v4 (rb_TS_pos v2)
  subst v1
  exact ⟨49, rb_find_l T 0 0 49 v2 v4 so (by omega) (by omega) H1 H2⟩
theorem rb_below {post : Int32 → Prop} {k : Int32} (r : rb_R root ch pa key val sz tot T) (H : post (nI (rb_lo key (rb_io T) k))) : wpX_below post (rb_st root free cur ch pa rd key val sz tot) k := by
  obtain ⟨⟨⟨v1, v2, v3, v4, v5, v6⟩, tz, s0, t0⟩, so, v0⟩ := r
  have hl := rb_len48 v3 v4 (rb_TS_pos v2)
  subst v1
  exact ⟨49, rb_below_l s0 T 0 0 0 49 v2 v4 tz so (by omega) (by omega) (by rw [Nat.zero_add]; exact H)⟩
theorem rb_sumBelow {post : Int64 → Prop} {k : Int32} (r : rb_R root ch pa key val sz tot T) (H : post (rb_sl key val (rb_io T) k)) : wpX_sumBelow post (rb_st root free cur ch pa rd key val sz tot) k := by
  obtain ⟨⟨⟨v1, v2, v3, v4, v5, v6⟩, tz, s0, t0⟩, so, v0⟩ := r
  have hl := rb_len48 v3 v4 (rb_TS_pos v2)
  subst v1
  refine ⟨49, rb_sumb_l t0 T 0 0 0 49 v2 v4 tz so (by omega) (by omega) ?_⟩
  rw [show (0 : Int64) + rb_ls val ((rb_io T).filter (fun x => decide (key x < k))) = rb_ls val ((rb_io T).filter (fun x => decide (key x < k))) by grind]
  exact H
theorem rb_ceiling {post : Int32 → Prop} {k : Int32} (r : rb_R root ch pa key val sz tot T) (H1 : ∀ x, (rb_io T).find? (fun x => decide (k ≤ key x)) = some x → post (nI x)) (H2 : (rb_io T).find? (fun x => decide (k ≤ key x)) = none → post 0) : wpX_ceiling post (rb_st root free cur ch pa rd key val sz tot) k := by
  obtain ⟨⟨⟨v1, v2, v3, v4, v5, v6⟩, tz, s0, t0⟩, so, v0⟩ := r
  have hl := rb_len48 v3 v4 (rb_TS_pos v2)
  subst v1
  exact ⟨49, rb_ceil_l T 0 0 49 0 v2 v4 so (by omega) (by omega) H1 H2⟩
theorem rb_nodeAt {post : Int32 → Prop} {m : Nat} (r : rb_R root ch pa key val sz tot T) (hm : m ≤ 48) (H1 : ∀ a x b, rb_io T = a ++ x :: b → a.length = m → post (nI x)) (H2 : (rb_io T).length ≤ m → post 0) : wpX_nodeAt post (rb_st root free cur ch pa rd key val sz tot) (nI m) := by
  obtain ⟨⟨⟨v1, v2, v3, v4, v5, v6⟩, tz, s0, t0⟩, so, v0⟩ := r
  have hl := rb_len48 v3 v4 (rb_TS_pos v2)
  subst v1
  exact ⟨49, rb_nodeAt_l s0 T 0 m 0 49 v2 v4 tz hm (by omega) (by omega) H1 H2⟩
theorem rb_firstV {post : Int32 → Prop} {C : List rb_F} {t : rb_T} (v : rb_V root ch pa (rb_plug C t)) (h0 : rb_at t ≠ 0) (H : ∀ x b, rb_io t = x :: b → post (nI x)) : wpX_first post (rb_st root free cur ch pa rd key val sz tot) (nI (rb_at t)) := by
  obtain ⟨v1, v2, v3, v4, v5, v6⟩ := id v
  have hl := rb_Clen v
  obtain ⟨_, ts⟩ := (rb_TS_plug C t).mp ⟨v1, v2⟩
  exact ⟨49, rb_first_l t _ 0 49 ts (fun x hx => v4 x ((rb_perm C t).mem_iff.mpr (List.mem_append_left _ hx))) h0 (by omega) (by omega) H⟩
theorem rb_nodeBehind {post : Int32 → Prop} {C : List rb_F} {n : Nat} {l r : rb_T} (v : rb_V root ch pa (rb_plug C (.branch n l r))) (H1 : ∀ x b, rb_io r ++ rb_cr C = x :: b → post (nI x)) (H2 : rb_io r ++ rb_cr C = [] → post 0) : wpX_nodeBehind post (rb_st root free cur ch pa rd key val sz tot) (nI n) := by
  obtain ⟨v1, v2, v3, v4, v5, v6⟩ := id v
  have hl := rb_Clen v
  obtain ⟨_, ts⟩ := (rb_TS_plug C _).mp ⟨v1, v2⟩
  obtain ⟨t1, t2, t3, t4, t5, t6⟩ := ts
  have n48 : n ≤ 48 := v4 n ((rb_perm C _).mem_iff.mpr (List.mem_append_left _ (by simp [rb_io])))
  unfold wpX_nodeBehind
  refine ⟨rb_in48 n48, pk_le (rb_at r) 0 (fun z => ⟨49, ?_⟩) (fun z => ⟨rb_in48 n48, ?_⟩) (hx := by simp only [rb_cl48 n48, t4]) (ha := by rw [← t4]; have := v5 true n; omega)⟩
  · have er : rb_io r = [] := by
      cases r with
      | leaf u => rfl
      | branch m a b => have := t6.1; simp only [rb_at] at z; omega
    rw [er] at H1 H2
    exact rb_behind_l C (.branch n l r) 0 49 v (by simp only [rb_at]; omega) (by omega) (by omega) H1 H2
  · simp only [rb_cl48 n48, t4]
    have v' : rb_V root ch pa (rb_plug ((true, n, l) :: C) r) := v
    refine rb_firstV v' (by omega) (fun x b e => H1 x (b ++ rb_cr C) (by rw [e]; rfl))
theorem rb_nodeBefore {post : Int32 → Prop} {C : List rb_F} {n : Nat} {l r : rb_T} (v : rb_V root ch pa (rb_plug C (.branch n l r))) (H1 : ∀ x a, rb_cl C ++ rb_io l = a ++ [x] → post (nI x)) (H2 : rb_cl C ++ rb_io l = [] → post 0) : wpX_nodeBefore post (rb_st root free cur ch pa rd key val sz tot) (nI n) := by
  obtain ⟨v1, v2, v3, v4, v5, v6⟩ := id v
  have hl := rb_Clen v
  obtain ⟨_, ts⟩ := (rb_TS_plug C _).mp ⟨v1, v2⟩
  obtain ⟨t1, t2, t3, t4, t5, t6⟩ := ts
  have n48 : n ≤ 48 := v4 n ((rb_perm C _).mem_iff.mpr (List.mem_append_left _ (by simp [rb_io])))
  unfold wpX_nodeBefore
  refine ⟨rb_in48 n48, pk_le (rb_at l) 0 (fun z => ⟨49, ?_⟩) (fun z => ⟨rb_in48 n48, nm_r (e' := nI (rb_at l)) (by simp only [rb_cl48 n48, t3]) ⟨49, ?_⟩⟩) (hx := by simp only [rb_cl48 n48, t3]) (ha := by rw [← t3]; have := v5 false n; omega)⟩
  · have er : rb_io l = [] := by
      cases l with
      | leaf u => rfl
      | branch m a b => have := t5.1; simp only [rb_at] at z; omega
    rw [er, List.append_nil] at H1 H2
    exact rb_before_l C (.branch n l r) 0 49 v (by simp only [rb_at]; omega) (by omega) (by omega) H1 H2
  · have e1 : (rb_io (.branch n l r)).length = (rb_io l).length + ((rb_io r).length + 1) := by simp [rb_io]
    refine rb_last_l l n 0 49 t5 (fun x hx => v4 x ((rb_perm C _).mem_iff.mpr (List.mem_append_left _ (by simp [rb_io, hx])))) (by omega) (by omega) (by omega) (fun x a e => H1 x (rb_cl C ++ a) (by rw [e]; simp))
end
end
section
/-! count, sum, place, get; the law's three checks -/
theorem rb_ct_none {key : Nat → Int32} {w : List Nat} {a b : Int32} (h : ¬ a ≤ b) : rb_ct key w a b = 0 := by
  unfold rb_ct
  rw [List.countP_eq_zero]
  intro x _
  simp only [decide_eq_true_eq, not_and]
  exact fun q z => h (Int32.le_trans q z)
theorem rb_min (x : Int32) : ¬ x < -2147483648 := by
  rw [rb_ltI]
  have h1 := Int32.le_toInt x
  have h2 : (-2147483648 : Int32).toInt = -2147483648 := by decide
  omega
theorem rb_max (x : Int32) : x ≤ 2147483647 := by
  rw [rb_leI]
  have h1 := Int32.toInt_lt x
  have h2 : (2147483647 : Int32).toInt = 2147483647 := by decide
  omega
theorem rb_lo_min {key : Nat → Int32} {w : List Nat} : rb_lo key w (-2147483648) = 0 := rb_cnt0 (fun x _ => rb_min _)
theorem rb_ct_all {key : Nat → Int32} {w : List Nat} : rb_ct key w (-2147483648) 2147483647 = w.length := by
  unfold rb_ct
  rw [List.countP_eq_length]
  intro x _
  exact decide_eq_true ⟨Int32.not_lt.mp (rb_min _), rb_max _⟩
theorem rb_succ {m c k : Int32} (h : m < c) : m + 1 ≤ k ↔ m < k := by
  rw [rb_leI, rb_ltI]
  rw [rb_ltI] at h
  have h1 := Int32.toInt_lt c
  have h2 := Int32.le_toInt m
  have h3 : (m + 1).toInt = m.toInt + 1 := by
    rw [Int32.toInt_add, show (1 : Int32).toInt = 1 by decide]
    exact Int.bmod_eq_of_le (by omega) (by omega)
  omega
theorem rb_ct_split {key : Nat → Int32} {w : List Nat} {a m c : Int32} (h1 : a ≤ m) (h2 : m < c) : rb_ct key w a m + rb_ct key w (m + 1) c = rb_ct key w a c := by
  induction w with
  | nil => rfl
  | cons y w ih =>
    unfold rb_ct at *
    simp only [List.countP_cons]
    rw [← ih]
    simp only [rb_succ h2, decide_eq_true_eq]
    rw [rb_leI] at h1
    rw [rb_ltI] at h2
    simp only [rb_leI, rb_ltI]
    split <;> split <;> split <;> omega
theorem rb_sm_split {key val : Nat → Int32} {w : List Nat} {a m c : Int32} (h1 : a ≤ m) (h2 : m < c) : rb_sm key val w a m + rb_sm key val w (m + 1) c = rb_sm key val w a c := by
  induction w with
  | nil => simp [rb_sm, rb_ls]
  | cons y w ih =>
    unfold rb_sm at *
    simp only [List.filter_cons, decide_eq_true_eq]
    simp only [rb_succ h2] at ih ⊢
    have g1 := rb_leI.mp h1
    have g2 := rb_ltI.mp h2
    by_cases p1 : a ≤ key y ∧ key y ≤ m
    · have q1 : ¬ (m < key y ∧ key y ≤ c) := by
        rw [rb_leI, rb_leI] at p1; rw [rb_leI, rb_ltI]; omega
      have q2 : a ≤ key y ∧ key y ≤ c := by
        rw [rb_leI, rb_leI] at p1; rw [rb_leI, rb_leI]; omega
      rw [if_pos p1, if_neg q1, if_pos q2]
      simp only [rb_ls]
      grind
    · by_cases p2 : m < key y ∧ key y ≤ c
      · have q2 : a ≤ key y ∧ key y ≤ c := by
          rw [rb_leI, rb_ltI] at p2; rw [rb_leI, rb_leI]; omega
        rw [if_neg p1, if_pos p2, if_pos q2]
        simp only [rb_ls]
        grind
      · have q2 : ¬ (a ≤ key y ∧ key y ≤ c) := by
          rw [rb_leI, rb_leI] at p1; rw [rb_leI, rb_ltI] at p2; rw [rb_leI, rb_leI]; omega
        rw [if_neg p1, if_neg p2, if_neg q2]
        exact ih
theorem rb_split {A B A' B' : List Nat} {x : Nat} (h : A ++ x :: B = A' ++ x :: B') (nd : (A ++ x :: B).Nodup) : A = A' ∧ B = B' := by
  induction A generalizing A' with
  | nil =>
    cases A' with
    | nil => simp only [List.nil_append, List.cons.injEq, true_and] at h; exact ⟨rfl, h⟩
    | cons y A' =>
      simp only [List.nil_append, List.cons_append, List.cons.injEq] at h
      simp only [List.nil_append, List.nodup_cons] at nd
      exact absurd (by rw [h.2]; simp) nd.1
  | cons z A ih =>
    cases A' with
    | nil =>
      simp only [List.nil_append, List.cons_append, List.cons.injEq] at h
      simp only [List.cons_append, List.nodup_cons] at nd
      exact absurd (by rw [h.1]; simp) nd.1
    | cons y A' =>
      simp only [List.cons_append, List.cons.injEq] at h
      simp only [List.cons_append, List.nodup_cons] at nd
      obtain ⟨e1, e2⟩ := ih h.2 nd.2
      exact ⟨by rw [h.1, e1], e2⟩
section
variable {root free : Nat} {cur : Int32} {ch : Bool → Nat → Nat} {pa : Nat → Nat} {rd : Nat → Bool} {key val sz : Nat → Int32} {tot : Nat → Int64} {T : rb_T}
theorem rb_node {x : Nat} (r : rb_R root ch pa key val sz tot T) (hx : x ∈ rb_io T) : 0 < x ∧ x ≤ 48 := ⟨rb_TS_pos r.1.1.2.1 x hx, r.1.1.2.2.2.1 x hx⟩
theorem rb_Rlen (r : rb_R root ch pa key val sz tot T) : (rb_io T).length ≤ 48 := rb_len48 r.1.1.2.2.1 r.1.1.2.2.2.1 (rb_TS_pos r.1.1.2.1)
theorem rb_count {post : Int32 → Prop} {a b : Int32} (r : rb_R root ch pa key val sz tot T) (H : post (nI (rb_ct key (rb_io T) a b))) : wpX_count post (rb_st root free cur ch pa rd key val sz tot) a b := by
  unfold wpX_count
  refine br_c (fun z => rb_below r (rb_find r (fun x hx hk => br_f (nI_nle (rb_node r hx).1 (by have := (rb_node r hx).2; omega)) ?_) (fun q => br_t (by decide) ?_))) (fun z => ?_)
  · have e := rb_ct_in r.2.1 hx hk z
    unfold wX_count_25
    refine nm_r (nI_1 _) (rb_below r ?_)
    rw [pk_sub (by omega), show rb_lo key (rb_io T) b + 1 - rb_lo key (rb_io T) a = rb_ct key (rb_io T) a b by omega]
    exact H
  · have e := rb_ct_out q z
    unfold wX_count_25
    refine nm_r (e' := nI (rb_lo key (rb_io T) b)) (nI_add _ 0) (rb_below r ?_)
    rw [pk_sub (by omega), show rb_lo key (rb_io T) b - rb_lo key (rb_io T) a = rb_ct key (rb_io T) a b by omega]
    exact H
  · rw [rb_ct_none z] at H
    exact H
theorem rb_sum {post : Int64 → Prop} {a b : Int32} (r : rb_R root ch pa key val sz tot T) (hab : a ≤ b) (H : post (rb_sm key val (rb_io T) a b)) : wpX_sum post (rb_st root free cur ch pa rd key val sz tot) a b := by
  unfold wpX_sum
  refine br_t hab (rb_find r (fun x hx hk => rb_sumBelow r ⟨rb_in48 (rb_node r hx).2, rb_sumBelow r ?_⟩) (fun q => rb_sumBelow r ⟨rb_in48 (n := 0) (by omega), rb_sumBelow r ?_⟩))
  · have e := rb_sm_in (val := val) r.2.1 hx hk hab
    rw [rb_cl48 (rb_node r hx).2, e]
    rw [show rb_sl key val (rb_io T) a + rb_sm key val (rb_io T) a b - rb_sl key val (rb_io T) a = rb_sm key val (rb_io T) a b by grind]
    exact H
  · have e := rb_sm_out (val := val) q hab
    have h0 : val (0 : Int32).toNatClampNeg = 0 := r.2.2
    rw [h0, e]
    rw [show rb_sl key val (rb_io T) a + rb_sm key val (rb_io T) a b + (0 : Int32).toInt64 - rb_sl key val (rb_io T) a = rb_sm key val (rb_io T) a b by rw [show (0 : Int32).toInt64 = 0 by decide]; grind]
    exact H
theorem rb_place {post : Int32 → Prop} {k : Int32} (r : rb_R root ch pa key val sz tot T) (H1 : ∀ x, x ∈ rb_io T → key x = k → post (nI (rb_lo key (rb_io T) k))) (H2 : (∀ x, x ∈ rb_io T → key x ≠ k) → post (-1)) : wpX_place post (rb_st root free cur ch pa rd key val sz tot) k := by
  unfold wpX_place
  exact rb_find r (fun x hx hk => br_f (nI_ne0 (rb_node r hx).1 (by have := (rb_node r hx).2; omega)) (rb_below r (H1 x hx hk))) (fun q => br_t rfl (H2 q))
theorem rb_get {post : Int32 → Prop} {k : Int32} {x : Nat} (r : rb_R root ch pa key val sz tot T) (hx : x ∈ rb_io T) (hk : key x = k) (H : post (val x)) : wpX_get post (rb_st root free cur ch pa rd key val sz tot) k := by
  unfold wpX_get
  refine rb_find r (fun y hy hk' => br_f (nI_ne0 (rb_node r hy).1 (by have := (rb_node r hy).2; omega)) ⟨rb_in48 (rb_node r hy).2, ?_⟩) (fun q => absurd hk (q x hx))
  rw [rb_cl48 (rb_node r hy).2]
  have e : y = x := by
    have so := r.2.1
    obtain ⟨A, B, e⟩ := List.append_of_mem hx
    rw [e] at so hy
    obtain ⟨_, _, kl, kr⟩ := rb_So_mid so
    simp only [List.mem_append, List.mem_cons] at hy
    rcases hy with hy | hy | hy
    · have := kl y hy; rw [hk', hk] at this; exact absurd this Int32.lt_irrefl
    · exact hy
    · have := kr y hy; rw [hk', hk] at this; exact absurd this Int32.lt_irrefl
  rw [e]
  exact H
theorem rb_key {post : Int32 → Prop} {k : Int32} (r : rb_R root ch pa key val sz tot T) (H : post 1) : wpL_key post (rb_st root free cur ch pa rd key val sz tot) k := by
  unfold wpL_key
  refine rb_place r (fun x hx hk => br_c (fun _ => H) (fun _ => rb_count r (br_t ?_ H))) (fun q => br_t rfl H)
  have e := rb_ct_in r.2.1 hx hk (Int32.not_lt.mp (rb_min k))
  rw [rb_lo_min] at e
  rw [← show rb_lo key (rb_io T) k + 1 = rb_ct key (rb_io T) (-2147483648) k by omega, nI_pred]
theorem rb_r22 {post : Int32 → Prop} {c a m : Int32} (r : rb_R root ch pa key val sz tot T) (h : a ≤ m) (H : post 1) : wL_ranges_22 post c a m (nI root) (nI free) cur (fun k => nI (ch false k)) (fun k => nI (ch true k)) (fun k => nI (pa k)) (fun k => rb_bI (rd k)) key val sz tot := by
  unfold wL_ranges_22
  refine br_c (fun z => rb_sum r h (rb_sum r ((rb_succ z).mpr z) (rb_sum r (Int32.le_of_lt (Int32.lt_of_le_of_lt h z)) (br_t (rb_sm_split h z) (rb_count r (rb_count r (rb_count r (br_t ?_ H)))))))) (fun _ => H)
  rw [nI_add, rb_ct_split h z]
theorem rb_ranges {post : Int32 → Prop} {a b c : Int32} (r : rb_R root ch pa key val sz tot T) (H : post 1) : wpL_ranges post (rb_st root free cur ch pa rd key val sz tot) a b c := by
  unfold wpL_ranges
  refine br_c (fun z => ?_) (fun z => ?_)
  · unfold wL_ranges_10
    exact br_t z (rb_r22 r z H)
  · unfold wL_ranges_10
    exact br_f z (rb_r22 r (Int32.le_of_lt (Int32.not_le.mp z)) H)
theorem rb_lo_at {A B : List Nat} {x : Nat} (so : rb_So key (A ++ x :: B)) : rb_lo key (A ++ x :: B) (key x) = A.length := by
  obtain ⟨_, _, kl, kr⟩ := rb_So_mid so
  unfold rb_lo
  rw [List.countP_append, List.countP_cons, rb_cntA kl, rb_cnt0 (w := B) (fun y hy => Int32.not_lt.mpr (Int32.le_of_lt (kr y hy))), if_neg (by simp [Int32.lt_irrefl])]
  rfl
/-- the place of a node that is there -/
theorem rb_place_at {post : Int32 → Prop} {A B : List Nat} {x : Nat} (r : rb_R root ch pa key val sz tot T) (e : rb_io T = A ++ x :: B) (H : post (nI A.length)) : wpX_place post (rb_st root free cur ch pa rd key val sz tot) (key x) := by
  have so := r.2.1
  rw [e] at so
  refine rb_place r (fun y hy hk => ?_) (fun q => absurd rfl (q x (by rw [e]; simp)))
  rw [e, rb_lo_at so]
  exact H
theorem rb_wayV {x : Nat} {A B : List Nat} (v : rb_V root ch pa T) (e : rb_io T = A ++ x :: B) : ∃ C l r, rb_V root ch pa (rb_plug C (.branch x l r)) ∧ rb_cl C ++ rb_io l = A ∧ rb_io r ++ rb_cr C = B := by
  obtain ⟨C, l, r, eT⟩ := rb_way T x (by rw [e]; simp)
  subst eT
  have nd := v.2.2.1
  have e2 := rb_io_plug C (.branch x l r)
  rw [rb_io_b] at e2
  have e3 : (rb_cl C ++ rb_io l) ++ x :: (rb_io r ++ rb_cr C) = A ++ x :: B := by
    rw [← e, e2]; simp
  obtain ⟨e4, e5⟩ := rb_split e3 (by rw [e3, ← e]; exact nd)
  exact ⟨C, l, r, v, e4, e5⟩
theorem rb_jump14 {post : Int32 → St1 → Prop} {x : Nat} (h0 : 0 < x) (h : x ≤ 48) (H : post 1 (rb_st root free (nI x) ch pa rd key val sz tot)) : wX_jump_14 post (nI x) (nI root) (nI free) cur (fun k => nI (ch false k)) (fun k => nI (ch true k)) (fun k => nI (pa k)) (fun k => rb_bI (rd k)) key val sz tot := by
  unfold wX_jump_14
  exact br_f (nI_nle h0 (by omega)) H
theorem rb_keyAt {post : Int32 → Prop} {x : Nat} (h0 : 0 < x) (h : x ≤ 48) (H : post (key x)) : wpX_key post (rb_st root free (nI x) ch pa rd key val sz tot) := by
  unfold wpX_key
  refine br_f (nI_ne0 h0 (by omega)) ⟨rb_in48 h, ?_⟩
  rw [rb_cl48 h]
  exact H
theorem rb_cursor {post : Int32 → St1 → Prop} {j : Nat} (hj : j < 50) (r : rb_R root ch pa key val sz tot T) (H : ∀ cur', post 1 (rb_st root free cur' ch pa rd key val sz tot)) : wpL_cursor post (rb_st root free cur ch pa rd key val sz tot) (nI j - 1) := by
  have hlen := rb_Rlen r
  unfold wpL_cursor
  cases j with
  | zero =>
    unfold wpX_jump
    refine br_f (by decide) ?_
    unfold wX_jump_14
    exact br_t (by decide) (br_f (by decide) (br_t (by decide) (H _)))
  | succ m =>
    rw [nI_pred]
    unfold wpX_jump
    refine br_t (nI_pos' (by omega)) (rb_nodeAt r (by omega) (fun A x B e hA => ?_) (fun hm => ?_))
    · have hx := rb_node r (x := x) (by rw [e]; simp)
      subst hA
      refine rb_jump14 hx.1 hx.2 (br_t rfl (rb_keyAt hx.1 hx.2 (rb_place_at r e (br_t rfl ?_))))
      unfold wpX_next
      refine br_f (nI_ne0 hx.1 (by omega)) ?_
      obtain ⟨C, l, rr, v, eA, eB⟩ := rb_wayV r.1.1 e
      refine rb_nodeBehind v (fun y b ey => ?_) (fun en => ?_)
      · have hy := rb_node r (x := y) (by rw [e, ← eB, ey]; simp)
        refine br_f (nI_nle hy.1 (by omega)) (br_t (by decide) ?_)
        unfold wpX_back
        refine br_f (nI_ne0 hy.1 (by omega)) ?_
        have e2 : rb_io T = (A ++ [x]) ++ y :: b := by rw [e, ← eB, ey]; simp
        obtain ⟨C2, l2, r2, v2, eA2, eB2⟩ := rb_wayV r.1.1 e2
        refine rb_nodeBefore v2 (fun z a ez => ?_) (fun en => ?_)
        · rw [eA2] at ez
          obtain ⟨_, e4⟩ := List.append_inj' ez rfl
          have e5 : x = z := by simpa using e4
          rw [← e5]
          unfold wX_back_33
          refine br_f (nI_ne0 hx.1 (by omega)) (br_t rfl ?_)
          exact rb_keyAt hx.1 hx.2 (br_t rfl (rb_place_at r e (br_t rfl (H _))))
        · rw [eA2] at en; simp at en
      · refine br_t (by decide) (br_t (by decide) ?_)
        unfold wpX_back
        refine br_t rfl ⟨rb_in48 (rb_root48 r.1.1), ?_⟩
        have eB' : B = [] := by rw [← eB]; exact en
        have el : (rb_io T).length = A.length + 1 := by rw [e, eB']; simp
        rw [rb_cl48 (rb_root48 r.1.1), r.1.1.1, rb_sz_at r.1.2.1 r.1.2.2.1, el, nI_pred]
        rw [← r.1.1.1]
        refine rb_nodeAt r (by omega) (fun A2 z B2 e2 h2 => ?_) (fun q => absurd q (by omega))
        have e3 : x = z := by
          rw [e] at e2
          obtain ⟨_, e4⟩ := List.append_inj e2 h2.symm
          simp only [List.cons.injEq] at e4
          exact e4.1
        rw [← e3]
        unfold wX_back_33
        refine br_f (nI_ne0 hx.1 (by omega)) (br_t rfl ?_)
        exact rb_keyAt hx.1 hx.2 (br_t rfl (rb_place_at r e (br_t rfl (H _))))
    · unfold wX_jump_14
      refine br_t (by decide) (br_f (by decide) (br_f (nI_pos (by omega)) (rb_count r ?_)))
      rw [rb_ct_all]
      exact br_f (nI_nlt hm (by omega)) (H _)
end
end
section
/-! put -/
def rb_FL (pa : Nat → Nat) : List Nat → Nat → Prop
  | [], f => f = 0
  | x :: w, f => f = x ∧ rb_FL pa w (pa x)
def rb_L (root free : Nat) (ch : Bool → Nat → Nat) (pa : Nat → Nat) (rd : Nat → Bool) (key val sz : Nat → Int32) (tot : Nat → Int64) (T : rb_T) (fl : List Nat) : Prop :=
  rb_R root ch pa key val sz tot T ∧ rb_OK rd T ∧ rd 0 = false ∧ rb_FL pa fl free ∧ (rb_io T ++ fl).Nodup ∧ (∀ x, x ∈ fl → 0 < x ∧ x ≤ 48) ∧ (rb_io T).length + fl.length = 48
theorem rb_FL_cg {pa pa' : Nat → Nat} : ∀ (fl : List Nat) (f : Nat), rb_FL pa fl f → (∀ k, k ∈ fl → pa' k = pa k) → rb_FL pa' fl f := by
  intro fl
  induction fl with
  | nil => intro f h _; exact h
  | cons x w ih =>
    intro f h hk
    exact ⟨h.1, by rw [hk x (by simp)]; exact ih _ h.2 (fun k z => hk k (by simp [z]))⟩
section
variable {root free : Nat} {cur : Int32} {ch : Bool → Nat → Nat} {pa : Nat → Nat} {rd : Nat → Bool} {key val sz : Nat → Int32} {tot : Nat → Int64}
theorem rb_put_l {post : Int32 → St1 → Prop} {k v : Int32} {T : rb_T} : ∀ (t : rb_T) (C : List rb_F) (step f : Nat), rb_plug C t = T → rb_V root ch pa (rb_plug C t) → rb_So key (rb_io t) → (∀ x, x ∈ rb_cl C → key x < k) → (∀ x, x ∈ rb_cr C → k < key x) → step + (rb_io t).length ≤ 48 → (rb_io t).length < f →
    (∀ C x l r, rb_plug C (.branch x l r) = T → key x = k → (vp_in (nI x) 49 ∧ ∀ w : Nat → Int32, w = upd val (nI x).toNatClampNeg v → wpX_refreshUp (fun u => match u with | (v1, v2, v3, v4, v5, v6, v7, v8, v9, v10, v11) => post 0 (v1, v2, v3, v4, v5, v6, v7, v8, v9, v10, v11)) (nI root, nI free, cur, fun k => nI (ch false k), fun k => nI (ch true k), fun k => nI (pa k), fun k => rb_bI (rd k), key, w, sz, tot) (nI x))) →
    (∀ C u, rb_plug C (.leaf u) = T → (∀ x, x ∈ rb_cl C → key x < k) → (∀ x, x ∈ rb_cr C → k < key x) → wX_put_89 post k v (nI (rb_par C)) (nI root) (nI free) cur (fun k => nI (ch false k)) (fun k => nI (ch true k)) (fun k => nI (pa k)) (fun k => rb_bI (rd k)) key val sz tot) →
    wX_put_11 post k v (nI root) (nI free) cur (fun k => nI (ch false k)) (fun k => nI (ch true k)) (fun k => nI (pa k)) (fun k => rb_bI (rd k)) key val sz tot f (nI (rb_par C)) (nI (rb_at t)) (nI step) := by
  intro t
  induction t with
  | leaf u =>
    intro C step f eT vv so hl hr hs hf H1 H2
    obtain ⟨f, rfl⟩ : ∃ g, f = g + 1 := ⟨f - 1, by omega⟩
    have Q := H2 C u eT hl hr
    exact br_c (fun _ => Q) (fun _ => br_t (show nI 0 ≤ 0 by decide) Q)
  | branch n l r ihl ihr =>
    intro C step f eT vv so hl hr hs hf H1 H2
    obtain ⟨v1, v2, v3, v4, v5, v6⟩ := id vv
    obtain ⟨_, ts⟩ := (rb_TS_plug C _).mp ⟨v1, v2⟩
    obtain ⟨t1, t2, t3, t4, t5, t6⟩ := ts
    rw [rb_at_b]
    rw [rb_io_b] at so hs hf
    obtain ⟨sl, sr, kl, kr⟩ := rb_So_mid so
    simp only [List.length_append, List.length_cons] at hs hf
    obtain ⟨f, rfl⟩ : ∃ g, f = g + 1 := ⟨f - 1, by omega⟩
    have n48 : n ≤ 48 := v4 n ((rb_perm C _).mem_iff.mpr (List.mem_append_left _ (by simp [rb_io])))
    refine br_f (nI_ge (b := 48) (by omega) (by omega)) (br_f (nI_nle t1 (by omega)) ⟨rb_in48 n48, ?_⟩)
    show ((key (nI n).toNatClampNeg = k → _) ∧ (¬ key (nI n).toNatClampNeg = k → _))
    rw [rb_cl48 n48]
    refine br_c (fun z => ?_) (fun z => ⟨rb_in48 n48, br_c (fun y => ⟨rb_in48 n48, nm_r (e' := nI (rb_at r)) (by simp only [rb_cl48 n48, t4]) (nm_r (nI_1 step) ?_)⟩) (fun y => ⟨rb_in48 n48, nm_r (e' := nI (rb_at l)) (by simp only [rb_cl48 n48, t3]) (nm_r (nI_1 step) ?_)⟩)⟩)
    · have Q := H1 C n l r eT z
      rw [rb_cl48 n48] at Q
      exact Q
    · have y' : key n < k := Int32.lt_of_le_of_ne y z
      refine ihr ((true, n, l) :: C) (step + 1) f eT vv sr (fun x hx => ?_) hr (by omega) (by omega) H1 H2
      simp only [rb_cl, List.mem_append, List.mem_singleton] at hx
      rcases hx with hx | hx | hx
      · exact hl x hx
      · exact Int32.lt_trans (kl x hx) y'
      · rw [hx]; exact y'
    · have y' : k < key n := Int32.not_le.mp y
      refine ihl ((false, n, r) :: C) (step + 1) f eT vv sl (fun x hx => hl x (by simpa [rb_cl] using hx)) (fun x hx => ?_) (by omega) (by omega) H1 H2
      simp only [rb_cr, List.mem_append, List.mem_cons] at hx
      rcases hx with (hx | hx) | hx
      · rw [hx]; exact y'
      · exact Int32.lt_trans y' (kr x hx)
      · exact hr x hx
theorem rb_w_put89 {post : Int32 → St1 → Prop} {k v : Int32} {p : Nat} (hn : free ≤ 48) (hp : p ≤ 48)
    (h0 : free = 0 → post (-1) (rb_st root free cur ch pa rd key val sz tot))
    (h1 : free ≠ 0 → p = 0 → wX_put_205 post (nI free) (nI free) (nI (pa free)) cur (fun k => nI (rb_sc (rb_sc ch false free 0) true free 0 false k)) (fun k => nI (rb_sc (rb_sc ch false free 0) true free 0 true k)) (fun k => nI (rb_set pa free p k)) (fun k => rb_bI (rb_set rd free true k)) (rb_set key free k) (rb_set val free v) sz tot)
    (h2 : ∀ d, free ≠ 0 → p ≠ 0 → (d = true ↔ rb_set key free k p ≤ k) → wX_put_205 post (nI free) (nI root) (nI (pa free)) cur (fun k => nI (rb_sc (rb_sc (rb_sc ch false free 0) true free 0) d p free false k)) (fun k => nI (rb_sc (rb_sc (rb_sc ch false free 0) true free 0) d p free true k)) (fun k => nI (rb_set pa free p k)) (fun k => rb_bI (rb_set rd free true k)) (rb_set key free k) (rb_set val free v) sz tot) :
    wX_put_89 post k v (nI p) (nI root) (nI free) cur (fun k => nI (ch false k)) (fun k => nI (ch true k)) (fun k => nI (pa k)) (fun k => rb_bI (rd k)) key val sz tot := by
  unfold wX_put_89
  have i := rb_in48 hn
  refine pk_eq free 0 h0 (fun z => ⟨i, nm_r (e' := nI (pa free)) (by simp only [rb_cl48 hn]) ⟨i, nm_r (e' := rb_set key free k) (by rw [rb_cl48 hn]; rfl) ⟨i, nm_r (e' := rb_set val free v) (by rw [rb_cl48 hn]; rfl) ⟨i, nm_r (e' := fun k => nI (rb_set (ch false) free 0 k)) (by rw [rb_cl48 hn]; exact rb_up1 _ _ 0) ⟨i, nm_r (e' := fun k => nI (rb_set (ch true) free 0 k)) (by rw [rb_cl48 hn]; exact rb_up1 _ _ 0) ⟨i, nm_r (e' := fun k => rb_bI (rb_set rd free true k)) (by rw [rb_cl48 hn]; exact rb_upB _ _ true) ⟨i, nm_r (e' := fun k => nI (rb_set pa free p k)) (by rw [rb_cl48 hn]; exact rb_up1 _ _ _) ?_⟩⟩⟩⟩⟩⟩⟩)
  refine pk_eq p 0 (fun y => h1 z y) (fun y => ⟨rb_in48 hp, ?_⟩)
  rw [rb_cl48 hp]
  refine br_c (fun q => ⟨rb_in48 hp, nm_r (e' := fun k => nI (rb_set (rb_set (ch true) free 0) p free k)) (by exact rb_up1 _ _ _) (h2 true z y ⟨fun _ => q, fun _ => rfl⟩)⟩) (fun q => ⟨rb_in48 hp, nm_r (e' := fun k => nI (rb_set (rb_set (ch false) free 0) p free k)) (by exact rb_up1 _ _ _) (h2 false z y ⟨fun w => absurd w (by decide), fun w => absurd w q⟩)⟩)
end
end
section
section
variable {root free : Nat} {cur : Int32} {ch : Bool → Nat → Nat} {pa : Nat → Nat} {rd : Nat → Bool} {key val sz : Nat → Int32} {tot : Nat → Int64}
theorem rb_put205 {post : Int32 → St1 → Prop} {C : List rb_F} {n : Nat} (v : rb_V root ch pa (rb_plug C (.branch n (.leaf ()) (.leaf ())))) (dz : rb_DZ val sz tot C) (s0 : sz 0 = 0) (t0 : tot 0 = 0) (h0 : rd 0 = false) (hn : rd n = true) (cb : rb_CB rd C false 0)
    (H : ∀ root' ch' pa' rd' sz' tot' T', rb_W root' ch' pa' val sz' tot' T' → rb_io T' = rb_io (rb_plug C (.branch n (.leaf ()) (.leaf ()))) → rb_OK rd' T' → rd' 0 = false → (∀ k, k ∉ rb_io (rb_plug C (.branch n (.leaf ()) (.leaf ()))) → pa' k = pa k) → post 1 (rb_st root' free cur ch' pa' rd' key val sz' tot')) :
    wX_put_205 post (nI n) (nI root) (nI free) cur (fun k => nI (ch false k)) (fun k => nI (ch true k)) (fun k => nI (pa k)) (fun k => rb_bI (rd k)) key val sz tot := by
  have hl := rb_Clen v
  unfold wX_put_205
  refine rb_refreshUp (C := (false, n, .leaf ()) :: C) (t := .leaf ()) (ch := ch) (pa := pa) (rd := rd) v trivial ⟨trivial, dz⟩ s0 t0 (fun sz' tot' w => ?_)
  exact ⟨49, rb_sa C.length C (Nat.le_refl _) root ch pa rd sz' tot' false n (.leaf ()) (.leaf ()) 0 0 49 w h0 hn h0 h0 rfl rfl cb (by omega) (by omega) H⟩
theorem rb_put {post : Int32 → St1 → Prop} {k v : Int32} {T : rb_T} {fl : List Nat} (L : rb_L root free ch pa rd key val sz tot T fl)
    (H0 : (rb_io T).length = 48 → post (-1) (rb_st root free cur ch pa rd key val sz tot))
    (H : ∀ (c : Int32) root' free' ch' pa' rd' key' val' sz' tot' T' fl' x, c = 0 ∨ c = 1 → rb_L root' free' ch' pa' rd' key' val' sz' tot' T' fl' → x ∈ rb_io T' → key' x = k → val' x = v → post c (rb_st root' free' cur ch' pa' rd' key' val' sz' tot')) :
    wpX_put post (rb_st root free cur ch pa rd key val sz tot) k v := by
  obtain ⟨r, ok, h0, hfl, nd, hf48, hlen⟩ := id L
  obtain ⟨⟨vv, tz, s0, t0⟩, so, v0⟩ := id r
  obtain ⟨v1, v2, v3, v4, v5, v6⟩ := id vv
  have hl := rb_Rlen r
  have ndf := List.nodup_append.mp nd
  have key1 : wX_put_11 post k v (nI root) (nI free) cur (fun k => nI (ch false k)) (fun k => nI (ch true k)) (fun k => nI (pa k)) (fun k => rb_bI (rd k)) key val sz tot 49 (nI (rb_par [])) (nI (rb_at T)) (nI 0) := by
    refine rb_put_l T [] 0 49 rfl vv so (fun x hx => by simp [rb_cl] at hx) (fun x hx => by simp [rb_cr] at hx) (by omega) (by omega) (fun C x l rr eT hk => ?_) (fun C u eT hcl hcr => ?_)
    · subst eT
      have xm : x ∈ rb_io (rb_plug C (.branch x l rr)) := (rb_perm C _).mem_iff.mpr (List.mem_append_left _ (by simp [rb_io]))
      have hx := rb_node r xm
      refine ⟨rb_in48 hx.2, nm_r (e' := rb_set val x v) (by rw [rb_cl48 hx.2]; rfl) ?_⟩
      obtain ⟨z1, z2⟩ := (rb_TZ_plug C _).mp tz
      obtain ⟨_, _, z3, z4⟩ := z1
      have ndC := rb_nd v3
      rw [rb_io_b] at ndC
      simp only [List.append_assoc, List.cons_append, List.nodup_append, List.nodup_cons, List.mem_append, List.mem_cons, not_or] at ndC
      obtain ⟨_, ⟨⟨x1, x2⟩, _⟩, x3⟩ := ndC
      have ne : ∀ (w : List Nat), x ∉ w → ∀ k, k ∈ w → rb_set val x v k = val k := fun w hw k hk => rb_set_off (fun z => hw (z ▸ hk))
      have xl : x ∉ rb_io l := fun z => x3 x z x (Or.inl rfl) rfl
      refine rb_refreshUp (C := (false, x, rr) :: C) (t := l) (ch := ch) (pa := pa) (rd := rd) vv (rb_TZ_cg l z3 (ne _ xl) (fun _ _ => rfl) (fun _ _ => rfl)) ⟨rb_TZ_cg rr z4 (ne _ x1) (fun _ _ => rfl) (fun _ _ => rfl), rb_DZ_cg C (rb_CZ_DZ C _ _ z2) (ne _ x2) (fun _ _ => rfl) (fun _ _ => rfl)⟩ s0 t0 (fun sz' tot' w => ?_)
      exact H 0 root free ch pa rd key _ sz' tot' _ fl x (Or.inl rfl) ⟨⟨w, so, (rb_set_off (by omega)).trans v0⟩, ok, h0, hfl, nd, hf48, hlen⟩ xm hk rb_set_on
    · subst eT
      have eio : rb_io (rb_plug C (.leaf u)) = rb_cl C ++ rb_cr C := rb_io_plug C (.leaf u)
      obtain ⟨cs, _⟩ := (rb_TS_plug C _).mp ⟨v1, v2⟩
      have p48 : rb_par C ≤ 48 := by
        by_cases z : rb_par C = 0
        · omega
        · exact v4 _ ((rb_perm C _).mem_iff.mpr (List.mem_append_right _ (rb_par_mem z)))
      cases fl with
      | nil =>
        have f0 : free = 0 := hfl
        simp only [List.length_nil, Nat.add_zero] at hlen
        exact rb_w_put89 (by omega) p48 (fun _ => H0 hlen) (fun z => absurd f0 z) (fun _ z => absurd f0 z)
      | cons n fl =>
        obtain ⟨f1, f2⟩ := hfl
        have fr0 := hf48 n (by simp)
        have nT : n ∉ rb_io (rb_plug C (.leaf u)) := fun z => ndf.2.2 n z n (by simp) rfl
        have nN : n ∉ rb_cn C := fun z => nT ((rb_perm C _).mem_iff.mpr (List.mem_append_right _ z))
        have nfl : n ∉ fl := (List.nodup_cons.mp ndf.2.1).1
        have ndC : (rb_cn C).Nodup := (List.nodup_append.mp (rb_nd v3)).2.1
        subst f1
        obtain ⟨kk, ekk⟩ : ∃ x, x = rb_set key free k := ⟨_, rfl⟩
        obtain ⟨vl, evl⟩ : ∃ x, x = rb_set val free v := ⟨_, rfl⟩
        have okk : ∀ x, x ≠ free → kk x = key x := fun x hx => by rw [ekk]; exact rb_set_off hx
        have kkn : kk free = k := by rw [ekk]; exact rb_set_on
        have vln : vl free = v := by rw [evl]; exact rb_set_on
        have z0 : rb_set rd free true 0 = rd 0 := rb_set_off (by omega)
        have cb : rb_CB (rb_set rd free true) C false 0 := by
          obtain ⟨h, hb, hc⟩ := (rb_TB_plug C (.leaf u)).mp ok
          have hz : h = 0 := hb
          rw [hz, show rd (rb_at (.leaf u)) = false from h0] at hc
          exact rb_CB_cg C _ _ hc (fun x hx => rb_set_off (fun z => nN (z ▸ hx))) z0
        have dz : rb_DZ vl sz tot C := rb_DZ_cg C (rb_CZ_DZ C _ _ ((rb_TZ_plug C _).mp tz).2) (fun x hx => by rw [evl]; exact rb_set_off (fun z => nN (z ▸ hx))) (fun _ _ => rfl) (fun _ _ => rfl)
        have en : rb_io (rb_plug C (.branch free (.leaf ()) (.leaf ()))) = rb_cl C ++ free :: rb_cr C := by
          rw [rb_io_plug]; rfl
        have memn : ∀ x, x ∈ rb_io (rb_plug C (.branch free (.leaf ()) (.leaf ()))) ↔ x = free ∨ x ∈ rb_io (rb_plug C (.leaf u)) := fun x => by
          rw [en, eio]; simp only [List.mem_append, List.mem_cons]
          constructor
          · rintro (h | h | h)
            · exact Or.inr (Or.inl h)
            · exact Or.inl h
            · exact Or.inr (Or.inr h)
          · rintro (h | h | h)
            · exact Or.inr (Or.inl h)
            · exact Or.inl h
            · exact Or.inr (Or.inr h)
        have so' : rb_So kk (rb_cl C ++ free :: rb_cr C) := by
          rw [eio] at so nT
          unfold rb_So at so ⊢
          rw [List.pairwise_append] at so ⊢
          simp only [List.mem_append, not_or] at nT
          have ol : ∀ x, x ∈ rb_cl C → kk x = key x := fun x hx => okk x (fun z => nT.1 (z ▸ hx))
          have or' : ∀ x, x ∈ rb_cr C → kk x = key x := fun x hx => okk x (fun z => nT.2 (z ▸ hx))
          refine ⟨so.1.imp_of_mem (fun {a b} ha hb q => by rw [ol a ha, ol b hb]; exact q), List.pairwise_cons.mpr ⟨fun x hx => by rw [kkn, or' x hx]; exact hcr x hx, so.2.1.imp_of_mem (fun {a b} ha hb q => by rw [or' a ha, or' b hb]; exact q)⟩, fun x hx y hy => ?_⟩
          rw [ol x hx]
          rcases List.mem_cons.mp hy with e | hy
          · rw [e, kkn]; exact hcl x hx
          · rw [or' y hy]; exact so.2.2 x hx y hy
        have nd' : (rb_io (rb_plug C (.branch free (.leaf ()) (.leaf ())))).Nodup := by
          rw [en]
          have := v3
          rw [eio] at this nT
          refine (List.perm_middle.nodup_iff).mpr (List.nodup_cons.mpr ⟨nT, this⟩)
        have fin : ∀ root1 ch1, rb_V root1 ch1 (rb_set pa free (rb_par C)) (rb_plug C (.branch free (.leaf ()) (.leaf ()))) → wX_put_205 post (nI free) (nI root1) (nI (pa free)) cur (fun k => nI (ch1 false k)) (fun k => nI (ch1 true k)) (fun k => nI (rb_set pa free (rb_par C) k)) (fun k => rb_bI (rb_set rd free true k)) kk vl sz tot := by
          intro root1 ch1 vn
          refine rb_put205 vn dz s0 t0 (z0.trans h0) rb_set_on cb (fun root' ch' pa' rd' sz' tot' T' w' e' ok' h0' off => ?_)
          refine H 1 _ _ _ _ _ _ _ _ _ T' fl free (Or.inr rfl) ⟨⟨w', by rw [e', en]; exact so', ?_⟩, ok', h0', ?_, ?_, fun x hx => hf48 x (by simp [hx]), ?_⟩ (by rw [e']; exact (memn _).mpr (Or.inl rfl)) kkn vln
          · rw [evl]; exact (rb_set_off (by omega)).trans v0
          · refine rb_FL_cg fl _ f2 (fun x hx => ?_)
            have xn : x ≠ free := fun z => nfl (z ▸ hx)
            rw [off x (fun z => ?_)]
            · exact rb_set_off xn
            · rcases (memn x).mp z with q | q
              · exact xn q
              · exact ndf.2.2 x q x (by simp [hx]) rfl
          · rw [e']
            refine List.nodup_append.mpr ⟨nd', (List.nodup_cons.mp ndf.2.1).2, fun x hx y hy z => ?_⟩
            rcases (memn x).mp hx with q | q
            · exact nfl (by rw [← q, z]; exact hy)
            · exact ndf.2.2 x q y (by simp [hy]) z
          · rw [e', en]
            rw [eio] at hlen
            simp only [List.length_append, List.length_cons] at hlen ⊢
            omega
        have b48 : ∀ x, x ∈ rb_io (rb_plug C (.branch free (.leaf ()) (.leaf ()))) → x ≤ 48 := fun x hx => by
          rcases (memn x).mp hx with q | q
          · omega
          · exact v4 x q
        have cle : ∀ e x, rb_sc (rb_sc ch false free 0) true free 0 e x ≤ 48 := rb_sc_le (rb_sc_le v5 (by omega)) (by omega)
        have ple : ∀ x, rb_set pa free (rb_par C) x ≤ 48 := rb_set_le v6 p48
        have oc : ∀ x, x ≠ free → ∀ e, rb_sc (rb_sc ch false free 0) true free 0 e x = ch e x := fun x hx e => by rw [rb_sc_k hx, rb_sc_k hx]
        have cf : ∀ e, rb_sc (rb_sc ch false free 0) true free 0 e free = 0 := fun e => by cases e <;> exact rb_set_on
        refine rb_w_put89 (by omega) p48 (fun z => absurd z (by omega)) (fun _ z => ?_) (fun d _ z hd => ?_)
        · rw [← ekk, ← evl]
          have eC : C = [] := by
            cases C with
            | nil => rfl
            | cons f C =>
              obtain ⟨d, p, s⟩ := f
              have := cs.1
              simp only [rb_par] at z
              omega
          rw [z]
          rw [← z]
          refine fin _ _ ?_
          subst eC
          exact ⟨rfl, ⟨by omega, rb_set_on, cf false, cf true, trivial, trivial⟩, nd', b48, cle, ple⟩
        · rw [← ekk, ← evl]
          refine fin _ _ ?_
          cases C with
          | nil => exact absurd rfl z
          | cons f C =>
            obtain ⟨dd, p, s⟩ := f
            obtain ⟨c1, c2, c3, c4, c5, c6⟩ := cs
            simp only [rb_cn, List.mem_cons, List.mem_append, not_or] at nN
            simp only [rb_cn, List.nodup_cons, List.nodup_append, List.mem_append, not_or] at ndC
            have kp : kk p = key p := okk p (Ne.symm nN.1)
            have ed : d = dd := by
              rw [← ekk] at hd
              cases dd with
              | true =>
                have := hcl p (by simp [rb_cl])
                exact hd.mpr (by show kk p ≤ k; rw [kp]; exact Int32.le_of_lt this)
              | false =>
                have := hcr p (by simp [rb_cr])
                cases d with
                | false => rfl
                | true =>
                  have q := hd.mp rfl
                  have q' : key p ≤ k := by rw [← kp]; exact q
                  exact absurd q' (Int32.not_le.mpr this)
            subst ed
            have ocp : ∀ x, x ≠ free → x ≠ p → ∀ e, rb_sc (rb_sc (rb_sc ch false free 0) true free 0) d p free e x = ch e x := fun x hx hy e => by rw [rb_sc_k hy, oc x hx]
            have op : ∀ x, x ≠ free → rb_set pa free p x = pa x := fun x hx => rb_set_off hx
            have pf : p ≠ free := Ne.symm nN.1
            obtain ⟨q1, q2⟩ := (rb_TS_plug (root := root) (ch := rb_sc (rb_sc (rb_sc ch false free 0) true free 0) d p free) (pa := rb_set pa free p) ((d, p, s) :: C) (.branch free (.leaf ()) (.leaf ()))).mpr ⟨⟨c1, rb_sc_on _ _ _ _, by rw [rb_sc_n, oc p pf]; exact c3, by rw [op p pf]; exact c4, rb_TS_cg s p c5 (fun x hx e => ocp x (fun z => nN.2.1 (z ▸ hx)) (fun z => ndC.1.1 (z ▸ hx)) e) (fun x hx => op x (fun z => nN.2.1 (z ▸ hx))), rb_CS_cg C p c6 (fun x hx e => ocp x (fun z => nN.2.2 (z ▸ hx)) (fun z => ndC.1.2 (z ▸ hx)) e) (fun x hx => op x (fun z => nN.2.2 (z ▸ hx)))⟩, ⟨by omega, rb_set_on, by rw [rb_sc_k (Ne.symm pf)]; exact cf false, by rw [rb_sc_k (Ne.symm pf)]; exact cf true, trivial, trivial⟩⟩
            exact ⟨q1, q2, nd', b48, rb_sc_le cle (by omega), ple⟩
  subst v1
  exact ⟨49, key1⟩
end
end
section
/-! removing a node: the tail; the next node takes over the place -/
theorem rb_TB_TW {rd : Nat → Bool} {t : rb_T} {h : Nat} (q : rb_TB rd t h) : rb_TW rd t h := by
  cases t with
  | leaf u => exact q
  | branch n l r =>
    rcases q with ⟨q1, _, _, q2, q3⟩ | q
    · exact Or.inl ⟨q1, q2, q3⟩
    · exact Or.inr q
theorem rb_DZ_sub {val sz : Nat → Int32} {tot : Nat → Int64} {d : Bool} {n y : Nat} {l : rb_T} {C : List rb_F} : ∀ D : List rb_F, rb_DZ val sz tot (D ++ (d, n, l) :: C) → rb_DZ val sz tot (D ++ (d, y, l) :: C) := by
  intro D
  induction D with
  | nil => intro h; exact h
  | cons f D ih =>
    obtain ⟨e, p, s⟩ := f
    intro h
    exact ⟨h.1, ih h.2⟩
theorem rb_CB_sub {rd rd' : Nat → Bool} {d : Bool} {n y : Nat} {l : rb_T} {C : List rb_F} (h0 : rd' 0 = rd 0) (hy : rd' y = rd n) (hl : ∀ k, k ∈ rb_io l → rd' k = rd k) (hC : ∀ k, k ∈ rb_cn C → rd' k = rd k) : ∀ (D : List rb_F) (c : Bool) (h : Nat), (∀ k, k ∈ rb_cn D → rd' k = rd k) → rb_CB rd (D ++ (d, n, l) :: C) c h → rb_CB rd' (D ++ (d, y, l) :: C) c h := by
  intro D
  have aa : ∀ s : rb_T, (∀ k, k ∈ rb_io s → rd' k = rd k) → rd' (rb_at s) = rd (rb_at s) := fun s hs => by
    by_cases z : rb_at s = 0
    · rw [z, h0]
    · exact hs _ (rb_at_mem z)
  induction D with
  | nil =>
    intro c h _ q
    rcases q with ⟨h1, h2, h3, h4, h5⟩ | ⟨h1, h2, h3⟩
    · exact Or.inl ⟨hy.trans h1, h2, by rw [aa l hl]; exact h3, rb_TB_cg l h h4 hl h0, rb_CB_cg C _ _ h5 hC h0⟩
    · exact Or.inr ⟨hy.trans h1, rb_TB_cg l h h2 hl h0, rb_CB_cg C _ _ h3 hC h0⟩
  | cons f D ih =>
    obtain ⟨e, p, s⟩ := f
    intro c h hD q
    have m : rd' p = rd p := hD p (by simp [rb_cn])
    have ms : ∀ k, k ∈ rb_io s → rd' k = rd k := fun k z => hD k (by simp [rb_cn, z])
    have mc : ∀ k, k ∈ rb_cn D → rd' k = rd k := fun k z => hD k (by simp [rb_cn, z])
    rcases q with ⟨h1, h2, h3, h4, h5⟩ | ⟨h1, h2, h3⟩
    · exact Or.inl ⟨m.trans h1, h2, by rw [aa s ms]; exact h3, rb_TB_cg s h h4 ms h0, ih _ _ mc h5⟩
    · exact Or.inr ⟨m.trans h1, rb_TB_cg s h h2 ms h0, ih _ _ mc h3⟩
theorem rb_cn_app (D C : List rb_F) : rb_cn (D ++ C) = rb_cn D ++ rb_cn C := by
  induction D with
  | nil => rfl
  | cons f D ih =>
    obtain ⟨e, p, s⟩ := f
    simp [rb_cn, ih]
theorem rb_cl_app (D C : List rb_F) : rb_cl (D ++ C) = rb_cl C ++ rb_cl D := by
  induction D with
  | nil => simp [rb_cl]
  | cons f D ih =>
    obtain ⟨e, p, s⟩ := f
    cases e <;> simp [rb_cl, ih]
theorem rb_cr_app (D C : List rb_F) : rb_cr (D ++ C) = rb_cr D ++ rb_cr C := by
  induction D with
  | nil => simp [rb_cr]
  | cons f D ih =>
    obtain ⟨e, p, s⟩ := f
    cases e <;> simp [rb_cr, ih]
/-- the first node of a tree -/
theorem rb_leftmost : ∀ t : rb_T, (∃ u, t = .leaf u) ∨ ∃ D y u yr, t = rb_plug D (.branch y (.leaf u) yr) ∧ rb_cl D = [] := by
  intro t
  induction t with
  | leaf u => exact Or.inl ⟨u, rfl⟩
  | branch n l r ihl ihr =>
    rcases ihl with ⟨u, e⟩ | ⟨D, y, u, yr, e, ec⟩
    · exact Or.inr ⟨[], n, u, r, by rw [e]; rfl, rfl⟩
    · exact Or.inr ⟨D ++ [(false, n, r)], y, u, yr, by rw [rb_plug_app, ← e]; rfl, by rw [rb_cl_app, ec]; rfl⟩
section
variable {root free : Nat} {cur : Int32} {ch : Bool → Nat → Nat} {pa : Nat → Nat} {rd : Nat → Bool} {key val sz : Nat → Int32} {tot : Nat → Int64}
theorem rb_V_cg {pa' : Nat → Nat} {T : rb_T} (v : rb_V root ch pa T) (h : ∀ k, k ∈ rb_io T → pa' k = pa k) (hb : ∀ k, pa' k ≤ 48) : rb_V root ch pa' T :=
  ⟨v.1, rb_TS_cg T 0 v.2.1 (fun _ _ _ => rfl) h, v.2.2.1, v.2.2.2.1, v.2.2.2.2.1, hb⟩
theorem rb_rm183 {post : St1 → Prop} {n : Nat} {T : rb_T} (n48 : n ≤ 48) (f48 : free ≤ 48) (w : rb_W root ch pa val sz tot T) (h0 : rd 0 = false) (nT : n ∉ rb_io T)
    (H : ∀ pa', rb_W root ch pa' val sz tot T → (∀ k, k ≠ 0 → k ≠ n → pa' k = pa k) → pa' n = free → post (rb_st root n cur ch pa' rd key val sz tot)) :
    wX_removeNode_183 post (nI n) (nI root) (nI free) cur (fun k => nI (ch false k)) (fun k => nI (ch true k)) (fun k => nI (pa k)) (fun k => rb_bI (rd k)) key val sz tot := by
  unfold wX_removeNode_183
  refine nm_r (e' := fun k => nI (rb_set pa 0 0 k)) (rb_up1 pa 0 0) (nm_r (e' := fun k => rb_bI (rb_set rd 0 false k)) (rb_upB rd 0 false) ⟨rb_in48 n48, nm_r (e' := fun k => nI (rb_set (rb_set pa 0 0) n free k)) (by rw [rb_cl48 n48]; exact rb_up1 _ _ _) ?_⟩)
  rw [rb_set_id h0]
  refine H _ ⟨rb_V_cg w.1 (fun k hk => ?_) (rb_set_le (rb_set_le w.1.2.2.2.2.2 (by omega)) f48), w.2⟩ (fun k k1 k2 => by rw [rb_set_off k2, rb_set_off k1]) rb_set_on
  have := rb_TS_pos w.1.2.1 k hk
  rw [rb_set_off (fun (z : k = n) => nT (z ▸ hk)), rb_set_off (by omega)]
theorem rb_rm168 {post : St1 → Prop} {C : List rb_F} {m : rb_T} {n : Nat} {b : Bool} (n48 : n ≤ 48) (f48 : free ≤ 48) (v : rb_V root ch pa (rb_plug C m)) (ep : pa (rb_at m) = rb_par C) (z : rb_TZ val sz tot m) (dz : rb_DZ val sz tot C) (s0 : sz 0 = 0) (t0 : tot 0 = 0) (h0 : rd 0 = false)
    (col : (b = false ∧ rb_OK rd (rb_plug C m)) ∨ (b = true ∧ ∃ h, rb_TW rd m h ∧ rb_CB rd C false (h + 1))) (nT : n ∉ rb_io (rb_plug C m))
    (H : ∀ root' ch' pa' rd' sz' tot' T', rb_W root' ch' pa' val sz' tot' T' → rb_io T' = rb_io (rb_plug C m) → rb_OK rd' T' → rd' 0 = false → (∀ k, k ∉ rb_io (rb_plug C m) → k ≠ 0 → k ≠ n → pa' k = pa k) → pa' n = free → post (rb_st root' n cur ch' pa' rd' key val sz' tot')) :
    wX_removeNode_168 post (nI n) (rb_bI b) (nI (rb_at m)) (nI (rb_par C)) (nI root) (nI free) cur (fun k => nI (ch false k)) (fun k => nI (ch true k)) (fun k => nI (pa k)) (fun k => rb_bI (rd k)) key val sz tot := by
  have hl := rb_Clen v
  unfold wX_removeNode_168
  refine rb_refreshUp (ch := ch) (pa := pa) (rd := rd) v z dz s0 t0 (fun sz' tot' w => ?_)
  rcases col with ⟨hb, ok⟩ | ⟨hb, h, tw, cb⟩
  · subst hb
    exact br_t rfl (rb_rm183 n48 f48 w h0 nT (fun pa' w' off en => H _ _ _ _ _ _ _ w' rfl ok h0 (fun k k1 k2 k3 => off k k2 k3) en))
  · subst hb
    refine br_f (by decide) ⟨50, rb_sr C root ch pa rd sz' tot' m (rb_at m) h 0 50 w rfl ep h0 tw cb (by omega) (by omega) (fun root' ch' pa' rd' sz2 tot2 T' w2 eio ok r0 off => ?_)⟩
    exact rb_rm183 n48 f48 w2 r0 (by rw [eio]; exact nT) (fun pa2 w3 off2 en => H _ _ _ _ _ _ _ w3 eio ok r0 (fun k k1 k2 k3 => by rw [off2 k k2 k3, off k k1]) en)
theorem rb_w_pip45 {post : St1 → Prop} {y n a : Nat} (ea : rb_rpc ch pa n y false n = a) (hy : y ≤ 48) (hn : n ≤ 48) (hc : ∀ e k, ch e k ≤ 48) (hp : ∀ k, pa k ≤ 48)
    (h : post (rb_st (rb_rpr root pa n y) free cur (rb_sc (rb_rpc ch pa n y) false y a) (rb_set (rb_set pa y (pa n)) a y) (rb_set rd y (rd n)) key val sz tot)) :
    wX_putInPlace_45 post (nI y) (nI n) (nI root) (nI free) cur (fun k => nI (ch false k)) (fun k => nI (ch true k)) (fun k => nI (pa k)) (fun k => rb_bI (rd k)) key val sz tot := by
  subst ea
  unfold wX_putInPlace_45
  have c3 := rb_rpc_le (pa := pa) (n := n) hc hy
  refine rb_w_replace (ch := ch) (pa := pa) (rd := rd) hn hy hc hp ⟨rb_in48 hn, rb_in48 hy, nm_r (e' := fun k => nI (rb_set (rb_rpc ch pa n y false) y (rb_rpc ch pa n y false n) k)) (by simp only [rb_cl48 hn, rb_cl48 hy, rb_up1]) ⟨rb_in48 hy, ?_⟩⟩
  simp only [rb_cl48 hy, rb_set_on, rb_cl48 (c3 false n), rb_cl48 hn, rb_nar]
  refine ⟨rb_in48 (c3 _ _), nm_r (rb_up1 _ _ _) ⟨rb_in48 hn, rb_in48 hy, nm_r (rb_upB _ _ _) h⟩⟩
theorem rb_w_pip {post : St1 → Prop} {y n m a : Nat} (em : ch true y = m) (ea : rb_rpc ch pa y m true n = a) (hy : y ≤ 48) (hn : n ≤ 48) (hc : ∀ e k, ch e k ≤ 48) (hp : ∀ k, pa k ≤ 48)
    (h1 : pa y = n → wX_putInPlace_45 post (nI y) (nI n) (nI root) (nI free) cur (fun k => nI (ch false k)) (fun k => nI (ch true k)) (fun k => nI (pa k)) (fun k => rb_bI (rd k)) key val sz tot)
    (h2 : pa y ≠ n → wX_putInPlace_45 post (nI y) (nI n) (nI (rb_rpr root pa y m)) (nI free) cur (fun k => nI (rb_sc (rb_rpc ch pa y m) true y a false k)) (fun k => nI (rb_sc (rb_rpc ch pa y m) true y a true k)) (fun k => nI (rb_set (rb_set pa m (pa y)) a y k)) (fun k => rb_bI (rd k)) key val sz tot) :
    wpX_putInPlace post (rb_st root free cur ch pa rd key val sz tot) (nI y) (nI n) := by
  subst em
  subst ea
  unfold wpX_putInPlace
  have c3 := rb_rpc_le (pa := pa) (n := y) hc (hc true y)
  refine ⟨rb_in48 hy, pk_eq (pa y) n h1 (fun z => ⟨rb_in48 hy, ?_⟩) (hx := by simp only [rb_cl48 hy]) (ha := by have := hp y; omega)⟩
  simp only [rb_cl48 hy]
  refine rb_w_replace (ch := ch) (pa := pa) (rd := rd) hy (hc _ _) hc hp ⟨rb_in48 hn, rb_in48 hy, nm_r (e' := fun k => nI (rb_set (rb_rpc ch pa y (ch true y) true) y (rb_rpc ch pa y (ch true y) true n) k)) (by simp only [rb_cl48 hn, rb_up1]) ⟨rb_in48 hy, ?_⟩⟩
  simp only [rb_set_on, rb_cl48 (c3 true n)]
  exact ⟨rb_in48 (c3 _ _), nm_r (rb_up1 _ _ _) (h2 z)⟩
/-- y takes over the place of n -/
theorem rb_pipS {C : List rb_F} {y n : Nat} {l r' : rb_T} (cs : rb_CS ch pa root C n) (pn : pa n = rb_par C) (n0 : n ≠ 0) (y0 : 0 < y) (cl : ch false n = rb_at l) (tl : rb_TS ch pa l n) (cy : ch true y = rb_at r') (tr : rb_TS ch pa r' y) (l0 : rb_at l ≠ 0)
    (nd : (n :: y :: (rb_io l ++ (rb_io r' ++ rb_cn C))).Nodup) :
    rb_rpc ch pa n y false n = rb_at l ∧ rb_CS (rb_sc (rb_rpc ch pa n y) false y (rb_at l)) (rb_set (rb_set pa y (pa n)) (rb_at l) y) (rb_rpr root pa n y) C y ∧ rb_TS (rb_sc (rb_rpc ch pa n y) false y (rb_at l)) (rb_set (rb_set pa y (pa n)) (rb_at l) y) (.branch y l r') (rb_par C) := by
  simp only [List.nodup_cons, List.nodup_append, List.mem_cons, List.mem_append, not_or] at nd
  obtain ⟨⟨hny, nL, nR, nN⟩, ⟨yL, yR, yN⟩, ndL, ⟨ndR, ndN, dR⟩, dL⟩ := nd
  have lm := rb_at_mem l0
  have pc : ∀ k, k ∉ rb_cn C → (pa n ≠ 0 → k ≠ pa n) := fun k hk z w => hk (by rw [w, pn]; exact rb_par_mem (by rw [← pn]; exact z))
  have e1 : rb_rpc ch pa n y false n = rb_at l := by rw [rb_rpc_off (pc n nN), cl]
  have ne : ∀ (w : List Nat) (m : Nat), m ∉ w → ∀ k, k ∈ w → k ≠ m := fun w m hw k hk z => hw (z ▸ hk)
  have offc : ∀ k, k ≠ y → k ∉ rb_cn C → ∀ e, rb_sc (rb_rpc ch pa n y) false y (rb_at l) e k = ch e k := fun k k1 k2 e => by rw [rb_sc_k k1, rb_rpc_off (pc k k2)]
  have offp : ∀ k, k ≠ y → k ≠ rb_at l → rb_set (rb_set pa y (pa n)) (rb_at l) y k = pa k := fun k k1 k2 => by rw [rb_set_off k2, rb_set_off k1]
  refine ⟨e1, ?_, y0, ?_, rb_sc_on _ _ _ _, ?_, ?_, ?_⟩
  · refine rb_CS_cg C y (rb_replace (b := y) cs pn n0 (List.nodup_cons.mpr ⟨nN, ndN⟩) yN) (fun k hk e => rb_sc_k (ne _ _ yN k hk) _ _) (fun k hk => rb_set_off (fun z => dL _ lm _ (Or.inr hk) z.symm))
  · rw [rb_set_off (fun (z : y = rb_at l) => yL (z ▸ lm)), rb_set_on, pn]
  · rw [show rb_sc (rb_rpc ch pa n y) false y (rb_at l) true y = rb_rpc ch pa n y true y from rfl, rb_rpc_off (pc y yN), cy]
  · exact rb_TS_re tl ndL (fun k hk => offc k (ne _ _ yL k hk) (fun z => dL k hk k (Or.inr z) rfl)) (fun k hk ka => offp k (ne _ _ yL k hk) ka) (fun _ => rb_set_on)
  · exact rb_TS_cg r' y tr (fun k hk => offc k (ne _ _ yR k hk) (fun z => dR k hk k z rfl)) (fun k hk => offp k (ne _ _ yR k hk) (fun z => dL _ lm k (Or.inl hk) z.symm))
/-- n leaves its place, its only child m comes up (m may be none) -/
theorem rb_outS {C : List rb_F} {n : Nat} {m : rb_T} (v1 : rb_CS ch pa root C n) (pn : pa n = rb_par C) (n0 : n ≠ 0) (tm : rb_TS ch pa m n) (nd : (n :: (rb_io m ++ rb_cn C)).Nodup) (m0 : 0 ∉ rb_cn C) :
    rb_CS (rb_rpc ch pa n (rb_at m)) (rb_set pa (rb_at m) (pa n)) (rb_rpr root pa n (rb_at m)) C (rb_at m) ∧ rb_TS (rb_rpc ch pa n (rb_at m)) (rb_set pa (rb_at m) (pa n)) m (rb_par C) := by
  simp only [List.nodup_cons, List.nodup_append, List.mem_append, not_or] at nd
  obtain ⟨⟨nM, nN⟩, ndM, ndN, dM⟩ := nd
  have pc : ∀ k, k ∉ rb_cn C → (pa n ≠ 0 → k ≠ pa n) := fun k hk z w => hk (by rw [w, pn]; exact rb_par_mem (by rw [← pn]; exact z))
  have am : rb_at m ∉ rb_cn C := fun z => by
    by_cases y : rb_at m = 0
    · rw [y] at z; exact m0 z
    · exact dM _ (rb_at_mem y) _ z rfl
  refine ⟨rb_replace v1 pn n0 (List.nodup_cons.mpr ⟨nN, ndN⟩) am, ?_⟩
  exact rb_TS_re tm ndM (fun k hk e => rb_rpc_off (pc k (fun z => dM k hk k z rfl)) e) (fun k hk ka => rb_set_off ka) (fun _ => by rw [rb_set_on, pn])
end
end
section
/-! removeNode -/
theorem rb_permB (C D : List rb_F) (n y : Nat) (u : Unit) (l yr : rb_T) : (rb_io (rb_plug C (.branch n l (rb_plug D (.branch y (.leaf u) yr))))).Perm (n :: y :: (rb_io l ++ (rb_io (rb_plug D yr) ++ rb_cn C))) := by
  refine List.perm_iff_count.mpr (fun a => ?_)
  have h1 := (rb_perm C (.branch n l (rb_plug D (.branch y (.leaf u) yr)))).count_eq a
  have h2 := (rb_perm D (.branch y (.leaf u) yr)).count_eq a
  have h3 := (rb_perm D yr).count_eq a
  simp only [rb_io_b, List.count_append, List.count_cons, show rb_io (.leaf u) = [] from rfl, List.count_nil] at *
  omega
section
variable {root free : Nat} {cur : Int32} {ch : Bool → Nat → Nat} {pa : Nat → Nat} {rd : Nat → Bool} {key val sz : Nat → Int32} {tot : Nat → Int64}
theorem rb_rm_fin {root' : Nat} {ch' : Bool → Nat → Nat} {pa' : Nat → Nat} {rd' : Nat → Bool} {sz' : Nat → Int32} {tot' : Nat → Int64} {T T' : rb_T} {fl A B : List Nat} {n : Nat} (L : rb_L root free ch pa rd key val sz tot T fl) (e : rb_io T = A ++ n :: B) (e' : rb_io T' = A ++ B) (w : rb_W root' ch' pa' val sz' tot' T') (ok : rb_OK rd' T') (r0 : rd' 0 = false) (off : ∀ k, k ∈ fl → pa' k = pa k) (en : pa' n = free) :
    rb_L root' n ch' pa' rd' key val sz' tot' T' (n :: fl) := by
  obtain ⟨r, _, _, hfl, nd, hf48, hlen⟩ := L
  have hn := rb_node r (x := n) (by rw [e]; simp)
  have so := r.2.1
  rw [e] at so nd hlen
  have sub : (A ++ B).Sublist (A ++ n :: B) := List.Sublist.append_left (List.sublist_cons_self n B) A
  refine ⟨⟨w, by rw [e']; exact so.sublist sub, r.2.2⟩, ok, r0, ⟨rfl, by rw [en]; exact rb_FL_cg fl _ hfl off⟩, ?_, ?_, ?_⟩
  · rw [e']
    have P : (A ++ n :: B ++ fl).Perm (A ++ B ++ n :: fl) := by
      refine List.perm_iff_count.mpr (fun a => ?_)
      simp only [List.count_append, List.count_cons]
      omega
    exact P.nodup_iff.mp nd
  · intro x hx
    rcases List.mem_cons.mp hx with z | z
    · rw [z]; exact hn
    · exact hf48 x z
  · rw [e']
    simp only [List.length_append, List.length_cons] at hlen ⊢
    omega
theorem rb_free48 {T : rb_T} {fl : List Nat} (L : rb_L root free ch pa rd key val sz tot T fl) : free ≤ 48 := by
  obtain ⟨_, _, _, hfl, _, hf48, _⟩ := L
  cases fl with
  | nil => have : free = 0 := hfl; omega
  | cons x w => rw [hfl.1]; exact (hf48 x (by simp)).2
theorem rb_w_rm17 {post : St1 → Prop} {n : Nat} (hn : n ≤ 48)
    (h : wX_removeNode_31 post (nI n) (rb_bI (!(rd n))) (nI root) (nI free) cur (fun k => nI (ch false k)) (fun k => nI (ch true k)) (fun k => nI (pa k)) (fun k => rb_bI (rd k)) key val sz tot) :
    wX_removeNode_17 post (nI n) (nI root) (nI free) cur (fun k => nI (ch false k)) (fun k => nI (ch true k)) (fun k => nI (pa k)) (fun k => rb_bI (rd k)) key val sz tot := by
  unfold wX_removeNode_17
  refine ⟨rb_in48 hn, ?_⟩
  simp only [rb_cl48 hn]
  cases z : rd n with
  | false => rw [z] at h; exact br_t rfl h
  | true => rw [z] at h; exact br_f (by decide) h
/-- one child at most -/
theorem rb_rmA {post : St1 → Prop} {C : List rb_F} {n : Nat} {l r m : rb_T} {fl : List Nat} (L : rb_L root free ch pa rd key val sz tot (rb_plug C (.branch n l r)) fl) (hm : (rb_io l = [] ∧ m = r) ∨ (rb_io r = [] ∧ m = l))
    (H : ∀ root' free' ch' pa' rd' sz' tot' T' fl', rb_L root' free' ch' pa' rd' key val sz' tot' T' fl' → rb_io T' = (rb_cl C ++ rb_io l) ++ (rb_io r ++ rb_cr C) → post (rb_st root' free' cur ch' pa' rd' key val sz' tot')) :
    wX_removeNode_74 post (nI n) (rb_bI (!(rd n))) (nI (rb_at m)) (nI root) (nI free) cur (fun k => nI (ch false k)) (fun k => nI (ch true k)) (fun k => nI (pa k)) (fun k => rb_bI (rd k)) key val sz tot := by
  have f48 := rb_free48 L
  obtain ⟨R, ok, h0, hfl, nd, hf48, hlen⟩ := id L
  obtain ⟨⟨v, tz, s0, t0⟩, so, _⟩ := id R
  obtain ⟨v1, v2, v3, v4, v5, v6⟩ := id v
  obtain ⟨cs, ts⟩ := (rb_TS_plug C _).mp ⟨v1, v2⟩
  obtain ⟨t1, t2, t3, t4, t5, t6⟩ := ts
  have eT : rb_io (rb_plug C (.branch n l r)) = (rb_cl C ++ rb_io l) ++ n :: (rb_io r ++ rb_cr C) := by rw [rb_io_plug, rb_io_b]; simp
  have em : rb_io (rb_plug C m) = (rb_cl C ++ rb_io l) ++ (rb_io r ++ rb_cr C) := by
    rw [rb_io_plug]
    rcases hm with ⟨q1, q2⟩ | ⟨q1, q2⟩
    · rw [q1, q2]; simp
    · rw [q1, q2]; simp
  have n48 : n ≤ 48 := v4 n (by rw [eT]; simp)
  have ndn : (n :: (rb_io m ++ rb_cn C)).Nodup := by
    have P : (rb_io (.branch n l r) ++ rb_cn C).Perm (n :: (rb_io m ++ rb_cn C)) := by
      refine List.perm_iff_count.mpr (fun a => ?_)
      rcases hm with ⟨q1, q2⟩ | ⟨q1, q2⟩
      · rw [q2, rb_io_b, q1]; simp only [List.count_append, List.count_cons, List.count_nil]; omega
      · rw [q2, rb_io_b, q1]; simp only [List.count_append, List.count_cons, List.count_nil]; omega
    exact P.nodup_iff.mp (rb_nd v3)
  have c0 : 0 ∉ rb_cn C := fun z => by
    have := rb_TS_pos v2 0 ((rb_perm C _).mem_iff.mpr (List.mem_append_right _ z))
    omega
  have tm : rb_TS ch pa m n := by
    rcases hm with ⟨_, q2⟩ | ⟨_, q2⟩
    · rw [q2]; exact t6
    · rw [q2]; exact t5
  have am : rb_at m ≤ 48 := by
    rcases hm with ⟨_, q2⟩ | ⟨_, q2⟩
    · rw [q2, ← t4]; exact v5 _ _
    · rw [q2, ← t3]; exact v5 _ _
  obtain ⟨o1, o2⟩ := rb_outS (n := n) cs t2 (by omega) tm ndn c0
  obtain ⟨p1, p2⟩ := (rb_TS_plug C m).mpr ⟨o1, o2⟩
  have ndT : (rb_io (rb_plug C m)).Nodup ∧ n ∉ rb_io (rb_plug C m) := by
    rw [em]
    rw [eT] at v3
    exact (List.nodup_cons.mp ((List.perm_middle.nodup_iff).mp v3)).symm
  have vm : rb_V (rb_rpr root pa n (rb_at m)) (rb_rpc ch pa n (rb_at m)) (rb_set pa (rb_at m) (pa n)) (rb_plug C m) := ⟨p1, p2, ndT.1, fun k hk => v4 k (by rw [eT]; rw [em] at hk; simp only [List.mem_append, List.mem_cons] at hk ⊢; rcases hk with (q | q) | (q | q) <;> simp [q]), rb_rpc_le v5 am, rb_set_le v6 (v6 _)⟩
  obtain ⟨z1, z2⟩ := (rb_TZ_plug C _).mp tz
  have zm : rb_TZ val sz tot m := by
    rcases hm with ⟨_, q2⟩ | ⟨_, q2⟩
    · rw [q2]; exact z1.2.2.2
    · rw [q2]; exact z1.2.2.1
  obtain ⟨h, hb, hc⟩ := (rb_TB_plug C _).mp ok
  have col : ((!(rd n)) = false ∧ rb_OK rd (rb_plug C m)) ∨ ((!(rd n)) = true ∧ ∃ h, rb_TW rd m h ∧ rb_CB rd C false (h + 1)) := by
    rcases hb with ⟨c1, c2, c3, c4, c5⟩ | ⟨c1, k, c2, c3, c4⟩
    · refine Or.inl ⟨by rw [c1]; rfl, (rb_TB_plug C m).mpr ⟨h, ?_, ?_⟩⟩
      · rcases hm with ⟨_, q2⟩ | ⟨_, q2⟩
        · rw [q2]; exact c5
        · rw [q2]; exact c4
      · have : rd (rb_at m) = false := by
          rcases hm with ⟨_, q2⟩ | ⟨_, q2⟩
          · rw [q2]; exact c3
          · rw [q2]; exact c2
        rw [this]
        exact rb_CB_f hc
    · refine Or.inr ⟨by rw [c1]; rfl, k, rb_TB_TW ?_, ?_⟩
      · rcases hm with ⟨_, q2⟩ | ⟨_, q2⟩
        · rw [q2]; exact c4
        · rw [q2]; exact c3
      · rw [show rd (rb_at (.branch n l r)) = false from c1, c2] at hc
        exact hc
  unfold wX_removeNode_74
  refine ⟨rb_in48 n48, nm_r (e' := nI (rb_par C)) (by simp only [rb_cl48 n48, t2]) (rb_w_replace (ch := ch) (pa := pa) (rd := rd) n48 am v5 v6 ?_)⟩
  refine rb_rm168 n48 f48 vm (by rw [rb_set_on]; exact t2) zm (rb_CZ_DZ C _ _ z2) s0 t0 h0 col ndT.2 (fun root' ch' pa' rd' sz' tot' T' w e' ok' r0 off en => ?_)
  refine H _ _ _ _ _ _ _ T' (n :: fl) (rb_rm_fin L eT (e'.trans em) w ok' r0 (fun k hk => ?_) en) (e'.trans em)
  have kT : k ∉ rb_io (rb_plug C (.branch n l r)) := fun z => (List.nodup_append.mp nd).2.2 k z k hk rfl
  have kn : k ≠ n := fun z => kT (by rw [z, eT]; simp)
  have k0 := hf48 k hk
  have km : k ∉ rb_io (rb_plug C m) := fun z => kT (by rw [eT]; rw [em] at z; simp only [List.mem_append, List.mem_cons] at z ⊢; rcases z with (q | q) | (q | q) <;> simp [q])
  rw [off k km (by omega) kn]
  refine rb_set_off (fun z => km ((rb_perm C m).mem_iff.mpr (List.mem_append_left _ ?_)))
  rw [z]
  exact rb_at_mem (by omega)
end
end
section
/-! removeNode: two children -/
theorem rb_par_app (D C : List rb_F) (hD : D ≠ []) : rb_par (D ++ C) = rb_par D := by
  cases D with
  | nil => exact absurd rfl hD
  | cons f D => obtain ⟨e, p, s⟩ := f; rfl
section
variable {root free : Nat} {cur : Int32} {ch : Bool → Nat → Nat} {pa : Nat → Nat} {rd : Nat → Bool} {key val sz : Nat → Int32} {tot : Nat → Int64}
/-- behind putInPlace: the context of the moved tree has y for n -/
theorem rb_rmB_end {post : St1 → Prop} {root4 : Nat} {ch4 : Bool → Nat → Nat} {pa4 : Nat → Nat} {C D : List rb_F} {n y : Nat} {u : Unit} {l yr : rb_T} {fl : List Nat} (L : rb_L root free ch pa rd key val sz tot (rb_plug C (.branch n l (rb_plug D (.branch y (.leaf u) yr)))) fl) (ec : rb_cl D = [])
    (cs4 : rb_CS ch4 pa4 root4 C y) (ts4 : rb_TS ch4 pa4 (.branch y l (rb_plug D yr)) (rb_par C)) (b4 : ∀ e k, ch4 e k ≤ 48) (b4' : ∀ k, pa4 k ≤ 48) (off4 : ∀ k, k ∈ fl → pa4 k = pa k)
    (H : ∀ root' free' ch' pa' rd' sz' tot' T' fl', rb_L root' free' ch' pa' rd' key val sz' tot' T' fl' → rb_io T' = (rb_cl C ++ rb_io l) ++ (rb_io (rb_plug D (.branch y (.leaf u) yr)) ++ rb_cr C) → post (rb_st root' free' cur ch' pa' rd' key val sz' tot')) :
    vp_in (nI (rb_at yr)) 49 ∧ ∀ w : Nat → Int32, w = upd (fun k => nI (pa4 k)) (nI (rb_at yr)).toNatClampNeg (nI (rb_par (D ++ (true, y, l) :: C))) → wX_removeNode_168 post (nI n) (rb_bI (!(rd y))) (nI (rb_at yr)) (nI (rb_par (D ++ (true, y, l) :: C))) (nI root4) (nI free) cur (fun k => nI (ch4 false k)) (fun k => nI (ch4 true k)) w (fun k => rb_bI (rb_set rd y (rd n) k)) key val sz tot := by
  have f48 := rb_free48 L
  obtain ⟨R, ok, h0, hfl, nd, hf48, hlen⟩ := id L
  obtain ⟨⟨v, tz, s0, t0⟩, so, _⟩ := id R
  obtain ⟨v1, v2, v3, v4, v5, v6⟩ := id v
  have P := rb_permB C D n y u l yr
  have ndP := P.nodup_iff.mp v3
  have eK : ∀ t, rb_plug (D ++ (true, n, l) :: C) t = rb_plug C (.branch n l (rb_plug D t)) := fun t => rb_plug_app D _ t
  have eK2 : ∀ t, rb_plug (D ++ (true, y, l) :: C) t = rb_plug C (.branch y l (rb_plug D t)) := fun t => rb_plug_app D _ t
  have er : rb_io (rb_plug D (.branch y (.leaf u) yr)) = y :: (rb_io yr ++ rb_cr D) := by
    rw [rb_io_plug, ec]; rfl
  have er' : rb_io (rb_plug D yr) = rb_io yr ++ rb_cr D := by
    rw [rb_io_plug, ec]; rfl
  have eT : rb_io (rb_plug C (.branch n l (rb_plug D (.branch y (.leaf u) yr)))) = (rb_cl C ++ rb_io l) ++ n :: (rb_io (rb_plug D (.branch y (.leaf u) yr)) ++ rb_cr C) := by rw [rb_io_plug, rb_io_b]; simp
  have em : rb_io (rb_plug (D ++ (true, y, l) :: C) yr) = (rb_cl C ++ rb_io l) ++ (rb_io (rb_plug D (.branch y (.leaf u) yr)) ++ rb_cr C) := by
    rw [eK2, rb_io_plug, rb_io_b, er, er']; simp
  have sub : ∀ k, k ∈ rb_io (rb_plug (D ++ (true, y, l) :: C) yr) → k ∈ rb_io (rb_plug C (.branch n l (rb_plug D (.branch y (.leaf u) yr)))) := fun k hk => by
    rw [eT]; rw [em] at hk
    simp only [List.mem_append, List.mem_cons] at hk ⊢
    rcases hk with (q | q) | (q | q) <;> simp [q]
  have ndT : (rb_io (rb_plug (D ++ (true, y, l) :: C) yr)).Nodup ∧ n ∉ rb_io (rb_plug (D ++ (true, y, l) :: C) yr) := by
    rw [em]
    have v3' := v3
    rw [eT] at v3'
    exact (List.nodup_cons.mp ((List.perm_middle.nodup_iff).mp v3')).symm
  have n48 : n ≤ 48 := v4 n (P.mem_iff.mpr (by simp))
  have yT : y ∈ rb_io (rb_plug (D ++ (true, y, l) :: C) yr) := by rw [em, er]; simp
  have hy := rb_node R (sub y yT)
  have p48 : rb_par (D ++ (true, y, l) :: C) ≤ 48 := by
    by_cases z : rb_par (D ++ (true, y, l) :: C) = 0
    · omega
    · exact v4 _ (sub _ ((rb_perm _ yr).mem_iff.mpr (List.mem_append_right _ (rb_par_mem z))))
  obtain ⟨q1, q2⟩ := (rb_TS_plug C _).mpr ⟨cs4, ts4⟩
  rw [← eK2] at q1 q2
  obtain ⟨cK, tK⟩ := (rb_TS_plug _ yr).mp ⟨q1, q2⟩
  have v5' : rb_V root4 ch4 (rb_set pa4 (rb_at yr) (rb_par (D ++ (true, y, l) :: C))) (rb_plug (D ++ (true, y, l) :: C) yr) := by
    refine rb_V_cg (pa := pa4) ⟨q1, q2, ndT.1, fun k hk => v4 k (sub k hk), b4, b4'⟩ (fun k hk => ?_) (rb_set_le b4' p48)
    by_cases z : k = rb_at yr
    · rw [z, rb_set_on]
      have k0 := rb_TS_pos q2 k hk
      cases yr with
      | leaf w => simp only [rb_at] at z; omega
      | branch x a b => exact tK.2.1.symm
    · exact rb_set_off z
  have a48 : rb_at yr ≤ 48 := by
    by_cases z : rb_at yr = 0
    · omega
    · exact v4 _ (sub _ ((rb_perm _ yr).mem_iff.mpr (List.mem_append_left _ (rb_at_mem z))))
  rw [← eK] at tz ok
  obtain ⟨z1, z2⟩ := (rb_TZ_plug _ _).mp tz
  obtain ⟨h, hb, hc⟩ := (rb_TB_plug _ _).mp ok
  have ndK := (List.nodup_append.mp (rb_nd ndT.1))
  have yK : y ∉ rb_io yr ∧ y ∉ rb_io l ∧ y ∉ rb_cn C ∧ y ∉ rb_cn D := by
    have hp := rb_perm D yr
    simp only [List.nodup_cons, List.mem_append, not_or] at ndP
    obtain ⟨_, ⟨yl, yp, yc⟩, _⟩ := ndP
    rw [hp.mem_iff] at yp
    simp only [List.mem_append, not_or] at yp
    exact ⟨yp.1, yl, yc, yp.2⟩
  have cu : ∀ (w : List Nat), y ∉ w → ∀ k, k ∈ w → rb_set rd y (rd n) k = rd k := fun w hw k hk => rb_set_off (fun z => hw (z ▸ hk))
  have z0 : rb_set rd y (rd n) 0 = rd 0 := rb_set_off (by omega)
  have cbs : ∀ c k, rb_CB rd (D ++ (true, n, l) :: C) c k → rb_CB (rb_set rd y (rd n)) (D ++ (true, y, l) :: C) c k := fun c k q => rb_CB_sub z0 rb_set_on (cu _ yK.2.1) (cu _ yK.2.2.1) D c k (cu _ yK.2.2.2) q
  have col : ((!(rd y)) = false ∧ rb_OK (rb_set rd y (rd n)) (rb_plug (D ++ (true, y, l) :: C) yr)) ∨ ((!(rd y)) = true ∧ ∃ h, rb_TW (rb_set rd y (rd n)) yr h ∧ rb_CB (rb_set rd y (rd n)) (D ++ (true, y, l) :: C) false (h + 1)) := by
    rcases hb with ⟨c1, c2, c3, c4, c5⟩ | ⟨c1, k, c2, c3, c4⟩
    · refine Or.inl ⟨by rw [c1]; rfl, (rb_TB_plug _ yr).mpr ⟨h, rb_TB_cg yr h c5 (cu _ yK.1) z0, ?_⟩⟩
      have : rb_set rd y (rd n) (rb_at yr) = false := by
        by_cases z : rb_at yr = 0
        · rw [z, z0, h0]
        · rw [cu _ yK.1 _ (rb_at_mem z)]; exact c3
      rw [this]
      exact rb_CB_f (cbs _ _ hc)
    · refine Or.inr ⟨by rw [c1]; rfl, k, rb_TB_TW (rb_TB_cg yr k c4 (cu _ yK.1) z0), ?_⟩
      rw [show rd (rb_at (.branch y (.leaf u) yr)) = false from c1, c2] at hc
      exact cbs _ _ hc
  refine ⟨rb_in48 a48, nm_r (e' := fun k => nI (rb_set pa4 (rb_at yr) (rb_par (D ++ (true, y, l) :: C)) k)) (by rw [rb_cl48 a48]; exact rb_up1 _ _ _) ?_⟩
  refine rb_rm168 n48 f48 v5' rb_set_on z1.2.2.2 (rb_DZ_sub D (rb_CZ_DZ _ _ _ z2)) s0 t0 (z0.trans h0) col ndT.2 (fun root' ch' pa' rd' sz' tot' T' w e' ok' r0 off en => ?_)
  refine H _ _ _ _ _ _ _ T' (n :: fl) (rb_rm_fin L eT (e'.trans em) w ok' r0 (fun k hk => ?_) en) (e'.trans em)
  have kT : k ∉ rb_io (rb_plug C (.branch n l (rb_plug D (.branch y (.leaf u) yr)))) := fun z => (List.nodup_append.mp nd).2.2 k z k hk rfl
  have kn : k ≠ n := fun z => kT (by rw [z, eT]; simp)
  have k0 := hf48 k hk
  have km : k ∉ rb_io (rb_plug (D ++ (true, y, l) :: C) yr) := fun z => kT (sub k z)
  rw [off k km (by omega) kn, rb_set_off (fun (z : k = rb_at yr) => km ((rb_perm _ yr).mem_iff.mpr (List.mem_append_left _ (by rw [z]; exact rb_at_mem (by omega)))))]
  exact off4 k hk
theorem rb_rmB {post : St1 → Prop} {C D : List rb_F} {n y : Nat} {u : Unit} {l yr : rb_T} {fl : List Nat} (L : rb_L root free ch pa rd key val sz tot (rb_plug C (.branch n l (rb_plug D (.branch y (.leaf u) yr)))) fl) (ec : rb_cl D = []) (l0 : rb_at l ≠ 0)
    (H : ∀ root' free' ch' pa' rd' sz' tot' T' fl', rb_L root' free' ch' pa' rd' key val sz' tot' T' fl' → rb_io T' = (rb_cl C ++ rb_io l) ++ (rb_io (rb_plug D (.branch y (.leaf u) yr)) ++ rb_cr C) → post (rb_st root' free' cur ch' pa' rd' key val sz' tot')) :
    wX_removeNode_119 post (nI n) (nI y) (rb_bI (!(rd y))) (nI root) (nI free) cur (fun k => nI (ch false k)) (fun k => nI (ch true k)) (fun k => nI (pa k)) (fun k => rb_bI (rd k)) key val sz tot := by
  obtain ⟨R, ok, h0, hfl, nd, hf48, hlen⟩ := id L
  obtain ⟨⟨v, tz, s0, t0⟩, so, _⟩ := id R
  obtain ⟨v1, v2, v3, v4, v5, v6⟩ := id v
  have P := rb_permB C D n y u l yr
  have ndP := P.nodup_iff.mp v3
  have n48 : n ≤ 48 := v4 n (P.mem_iff.mpr (by simp))
  have y48 : y ≤ 48 := v4 y (P.mem_iff.mpr (by simp))
  have y0 : 0 < y := rb_TS_pos v2 y (P.mem_iff.mpr (by simp))
  obtain ⟨cs, ts⟩ := (rb_TS_plug C _).mp ⟨v1, v2⟩
  obtain ⟨t1, t2, t3, t4, t5, t6⟩ := ts
  have eK : ∀ t, rb_plug (D ++ (true, n, l) :: C) t = rb_plug C (.branch n l (rb_plug D t)) := fun t => rb_plug_app D _ t
  obtain ⟨csK, tsK⟩ := (rb_TS_plug (D ++ (true, n, l) :: C) (.branch y (.leaf u) yr)).mp (by rw [eK]; exact ⟨v1, v2⟩)
  obtain ⟨k1, k2, k3, k4, k5, k6⟩ := tsK
  have kfl : ∀ k, k ∈ fl → k ∉ rb_io (rb_plug C (.branch n l (rb_plug D (.branch y (.leaf u) yr)))) := fun k hk z => (List.nodup_append.mp nd).2.2 k z k hk rfl
  have mem : ∀ k, k ∈ rb_io (rb_plug C (.branch n l (rb_plug D (.branch y (.leaf u) yr)))) ↔ k = n ∨ k = y ∨ k ∈ rb_io l ∨ k ∈ rb_io (rb_plug D yr) ∨ k ∈ rb_cn C := fun k => by rw [P.mem_iff]; simp
  have ndP' := ndP
  simp only [List.nodup_cons, List.nodup_append, List.mem_cons, List.mem_append, not_or] at ndP'
  obtain ⟨⟨hny, nL, nR, nN⟩, ⟨yL, yR, yN⟩, ndL, ⟨ndR, ndN, dR⟩, dL⟩ := ndP'
  have nfl : ∀ k, k ∈ fl → k ≠ y ∧ k ≠ rb_at l ∧ k ≠ rb_at yr ∧ k ≠ rb_at (rb_plug D yr) := fun k hk => by
    have q := kfl k hk
    have k0 := hf48 k hk
    rw [mem] at q
    simp only [not_or] at q
    have sub : ∀ z, z ∈ rb_io yr → z ∈ rb_io (rb_plug D yr) := fun z hz => (rb_perm D yr).mem_iff.mpr (List.mem_append_left _ hz)
    refine ⟨q.2.1, fun z => q.2.2.1 (by rw [z]; exact rb_at_mem (by omega)), fun z => q.2.2.2.1 (sub _ (by rw [z]; exact rb_at_mem (by omega))), fun z => q.2.2.2.1 (by rw [z]; exact rb_at_mem (by omega))⟩
  unfold wX_removeNode_119
  refine ⟨rb_in48 y48, nm_r (e' := nI (rb_at yr)) (by simp only [rb_cl48 y48, k4]) ⟨rb_in48 y48, ?_⟩⟩
  simp only [rb_cl48 y48]
  have c0 : 0 ∉ rb_cn (D ++ (true, n, l) :: C) := fun z => by
    have := rb_TS_pos v2 0 (by rw [← eK]; exact (rb_perm _ _).mem_iff.mpr (List.mem_append_right _ z))
    omega
  by_cases hD : D = []
  · subst hD
    have py : pa y = n := k2
    refine br_t (by rw [py]) ?_
    unfold wX_removeNode_151
    obtain ⟨e1, e2, e3⟩ := rb_pipS (n := n) cs t2 (by omega) y0 t3 t5 (r' := yr) k4 k6 l0 ndP
    refine rb_w_pip k4 rfl y48 n48 v5 v6 (fun _ => rb_w_pip45 e1 y48 n48 v5 v6 ?_) (fun z => absurd py z)
    exact rb_rmB_end L ec e2 e3 (rb_sc_le (rb_rpc_le v5 y48) (by rw [← t3]; exact v5 _ _)) (rb_set_le (rb_set_le v6 (v6 _)) y48) (fun k hk => by rw [rb_set_off (nfl k hk).2.1, rb_set_off (nfl k hk).1]) H
  · have pD : rb_par (D ++ (true, n, l) :: C) = rb_par D := rb_par_app D _ hD
    have pD2 : rb_par (D ++ (true, y, l) :: C) = rb_par D := rb_par_app D _ hD
    have py : pa y = rb_par D := k2.trans pD
    have aD : rb_at (rb_plug D yr) ∈ rb_cn D := rb_at_plug D yr hD
    have aR : rb_at (rb_plug D yr) ∈ rb_io (rb_plug D yr) := (rb_perm D yr).mem_iff.mpr (List.mem_append_right _ aD)
    have cnK : ∀ k, k ∈ rb_cn D → k ∈ rb_cn (D ++ (true, n, l) :: C) := fun k hk => by rw [rb_cn_app]; exact List.mem_append_left _ hk
    have a0 : rb_at (rb_plug D yr) ≠ 0 := fun z => c0 (cnK 0 (by rw [← z]; exact aD))
    have pD0 : rb_par D ≠ 0 := by
      cases D with
      | nil => exact absurd rfl hD
      | cons f D =>
        obtain ⟨e, p, s⟩ := f
        intro z
        simp only [rb_par] at z
        exact c0 (cnK 0 (by simp [rb_cn, z]))
    have pDn : rb_par D ≠ n := fun z => nR ((rb_perm D yr).mem_iff.mpr (List.mem_append_right _ (by rw [← z]; exact rb_par_mem pD0)))
    have ndK : (y :: (rb_io yr ++ rb_cn (D ++ (true, n, l) :: C))).Nodup := by
      have q := rb_nd (C := D ++ (true, n, l) :: C) (t := .branch y (.leaf u) yr) (by rw [eK]; exact v3)
      exact q
    obtain ⟨o1, o2⟩ := rb_outS csK k2 (show y ≠ 0 by omega) k6 ndK c0
    obtain ⟨r1, r2⟩ := (rb_TS_plug _ yr).mpr ⟨o1, o2⟩
    rw [eK] at r1 r2
    obtain ⟨c1, c2⟩ := (rb_TS_plug C _).mp ⟨r1, r2⟩
    obtain ⟨m1, m2, m3, m4, m5, m6⟩ := c2
    refine br_f (by rw [rb_eq48 (v6 _) n48, py]; exact pDn) ⟨rb_in48 y48, ?_⟩
    rw [py]
    unfold wX_removeNode_151
    have b2 := rb_rpc_le (pa := pa) (n := y) v5 (show rb_at yr ≤ 48 by rw [← k4]; exact v5 _ _)
    have a48 : rb_at (rb_plug D yr) ≤ 48 := by rw [← m4]; exact b2 _ _
    have yr48 : rb_at yr ≤ 48 := by rw [← k4]; exact v5 _ _
    refine rb_w_pip k4 m4 y48 n48 v5 v6 (fun z => absurd (py.symm.trans z) pDn) (fun _ => ?_)
    have ne : ∀ (w : List Nat) (m : Nat), m ∉ w → ∀ k, k ∈ w → k ≠ m := fun w m hw k hk z => hw (z ▸ hk)
    have cs2 := rb_CS_cg (ch' := rb_sc (rb_rpc ch pa y (rb_at yr)) true y (rb_at (rb_plug D yr))) (pa' := rb_set (rb_set pa (rb_at yr) (pa y)) (rb_at (rb_plug D yr)) y) C _ c1 (fun k hk e => rb_sc_k (ne _ _ yN k hk) _ _) (fun k hk => rb_set_off (fun z => dR _ aR _ hk z.symm))
    have tl2 := rb_TS_cg (ch' := rb_sc (rb_rpc ch pa y (rb_at yr)) true y (rb_at (rb_plug D yr))) (pa' := rb_set (rb_set pa (rb_at yr) (pa y)) (rb_at (rb_plug D yr)) y) l _ m5 (fun k hk e => rb_sc_k (ne _ _ yL k hk) _ _) (fun k hk => rb_set_off (fun z => dL k hk _ (Or.inl aR) z))
    have tr2 := rb_TS_re (ch' := rb_sc (rb_rpc ch pa y (rb_at yr)) true y (rb_at (rb_plug D yr))) (pa' := rb_set (rb_set pa (rb_at yr) (pa y)) (rb_at (rb_plug D yr)) y) (par' := y) m6 ndR (fun k hk e => rb_sc_k (ne _ _ yR k hk) _ _) (fun k hk ka => rb_set_off ka) (fun _ => rb_set_on)
    have pn2 : rb_set (rb_set pa (rb_at yr) (pa y)) (rb_at (rb_plug D yr)) y n = rb_par C := by
      rw [rb_set_off (fun z => nR (by rw [z]; exact aR))]; exact m2
    obtain ⟨e1, e2, e3⟩ := rb_pipS cs2 pn2 (show n ≠ 0 by omega) y0 m3 tl2 (rb_sc_on _ _ _ _) tr2 l0 ndP
    refine rb_w_pip45 e1 y48 n48 (rb_sc_le b2 a48) (rb_set_le (rb_set_le v6 (v6 _)) y48) ?_
    have Q := rb_rmB_end (cur := cur) L ec e2 e3 (rb_sc_le (rb_rpc_le (rb_sc_le b2 a48) y48) (by rw [← t3]; exact v5 _ _)) (rb_set_le (rb_set_le (rb_set_le (rb_set_le v6 (v6 _)) y48) (rb_set_le (rb_set_le v6 (v6 _)) y48 _)) y48) (fun k hk => by rw [rb_set_off (nfl k hk).2.1, rb_set_off (nfl k hk).1, rb_set_off (nfl k hk).2.2.2, rb_set_off (nfl k hk).2.2.1]) H
    rw [pD2] at Q
    exact Q
end
end
section
/-! removeNode, remove, removeAll, seek -/
section
variable {root free : Nat} {cur : Int32} {ch : Bool → Nat → Nat} {pa : Nat → Nat} {rd : Nat → Bool} {key val sz : Nat → Int32} {tot : Nat → Int64}
theorem rb_at0 {t : rb_T} {par : Nat} (ts : rb_TS ch pa t par) (h : rb_at t = 0) : rb_io t = [] := by
  cases t with
  | leaf u => rfl
  | branch n l r => have := ts.1; simp only [rb_at] at h; omega
theorem rb_removeNode {post : St1 → Prop} {T : rb_T} {fl A B : List Nat} {n : Nat} (L : rb_L root free ch pa rd key val sz tot T fl) (e : rb_io T = A ++ n :: B)
    (H : ∀ cur' root' free' ch' pa' rd' sz' tot' T' fl', rb_L root' free' ch' pa' rd' key val sz' tot' T' fl' → rb_io T' = A ++ B → post (rb_st root' free' cur' ch' pa' rd' key val sz' tot')) :
    wpX_removeNode post (rb_st root free cur ch pa rd key val sz tot) (nI n) := by
  obtain ⟨C, l, r, eT⟩ := rb_way T n (by rw [e]; simp)
  subst eT
  obtain ⟨R, ok, h0, hfl, nd, hf48, hlen⟩ := id L
  obtain ⟨⟨v, tz, s0, t0⟩, so, _⟩ := id R
  obtain ⟨v1, v2, v3, v4, v5, v6⟩ := id v
  have e2 : rb_io (rb_plug C (.branch n l r)) = (rb_cl C ++ rb_io l) ++ n :: (rb_io r ++ rb_cr C) := by rw [rb_io_plug, rb_io_b]; simp
  obtain ⟨eA, eB⟩ := rb_split (e2.symm.trans e) (by rw [← e2]; exact v3)
  obtain ⟨cs, ts⟩ := (rb_TS_plug C _).mp ⟨v1, v2⟩
  obtain ⟨t1, t2, t3, t4, t5, t6⟩ := ts
  have n48 : n ≤ 48 := v4 n (by rw [e]; simp)
  have l48 : rb_at l ≤ 48 := by rw [← t3]; exact v5 _ _
  have r48 : rb_at r ≤ 48 := by rw [← t4]; exact v5 _ _
  have M : ∀ cur : Int32, wX_removeNode_17 post (nI n) (nI root) (nI free) cur (fun k => nI (ch false k)) (fun k => nI (ch true k)) (fun k => nI (pa k)) (fun k => rb_bI (rd k)) key val sz tot := by
    intro cur
    have H' : ∀ root' free' ch' pa' rd' sz' tot' T' fl', rb_L root' free' ch' pa' rd' key val sz' tot' T' fl' → rb_io T' = (rb_cl C ++ rb_io l) ++ (rb_io r ++ rb_cr C) → post (rb_st root' free' cur ch' pa' rd' key val sz' tot') := by
      intro root' free' ch' pa' rd' sz' tot' T' fl' L' e'
      exact H _ _ _ _ _ _ _ _ T' fl' L' (by rw [e', eA, eB])
    have M50 : (rb_at l = 0 ∨ rb_at r = 0) → wX_removeNode_50 post (nI n) (rb_bI (!(rd n))) (nI root) (nI free) cur (fun k => nI (ch false k)) (fun k => nI (ch true k)) (fun k => nI (pa k)) (fun k => rb_bI (rd k)) key val sz tot := by
      intro hz
      unfold wX_removeNode_50
      refine ⟨rb_in48 n48, ?_⟩
      simp only [rb_cl48 n48, t3, t4]
      refine pk_eq (rb_at l) 0 (fun z => ⟨rb_in48 n48, rb_rmA L (Or.inl ⟨rb_at0 t5 z, rfl⟩) H'⟩) (fun z => ⟨rb_in48 n48, rb_rmA L (Or.inr ⟨rb_at0 t6 ?_, rfl⟩) H'⟩)
      rcases hz with q | q
      · exact absurd q z
      · exact q
    refine rb_w_rm17 n48 ?_
    unfold wX_removeNode_31
    refine ⟨rb_in48 n48, ?_⟩
    simp only [rb_cl48 n48, t3, t4]
    refine pk_eq (rb_at l) 0 (fun z => M50 (Or.inl z)) (fun z => ⟨rb_in48 n48, pk_eq (rb_at r) 0 (fun z2 => M50 (Or.inr z2)) (fun z2 => ⟨rb_in48 n48, ?_⟩)⟩)
    rcases rb_leftmost r with ⟨u, eu⟩ | ⟨D, y, u, yr, er, ec⟩
    · rw [eu] at z2; exact absurd rfl z2
    subst er
    have v' : rb_V root ch pa (rb_plug ((true, n, l) :: C) (rb_plug D (.branch y (.leaf u) yr))) := v
    refine rb_firstV v' z2 (fun x b ex => ?_)
    have exy : y = x := by
      rw [rb_io_plug, ec] at ex
      simp only [rb_io, List.nil_append, List.cons_append, List.cons.injEq] at ex
      exact ex.1
    subst exy
    have y48 : y ≤ 48 := v4 y ((rb_permB C D n y u l yr).mem_iff.mpr (by simp))
    refine ⟨rb_in48 y48, ?_⟩
    have Q := rb_rmB (cur := cur) L ec z H'
    simp only [rb_cl48 y48]
    cases zy : rd y with
    | false => rw [zy] at Q; exact br_t rfl Q
    | true => rw [zy] at Q; exact br_f (by decide) Q
  unfold wpX_removeNode
  exact br_c (fun _ => rb_nodeBehind v (fun x b _ => M _) (fun _ => M _)) (fun _ => M _)
theorem rb_remove {post : Int32 → St1 → Prop} {T : rb_T} {fl : List Nat} {k : Int32} (L : rb_L root free ch pa rd key val sz tot T fl)
    (H : ∀ c cur' root' free' ch' pa' rd' sz' tot' T' fl', rb_L root' free' ch' pa' rd' key val sz' tot' T' fl' → post c (rb_st root' free' cur' ch' pa' rd' key val sz' tot')) :
    wpX_remove post (rb_st root free cur ch pa rd key val sz tot) k := by
  unfold wpX_remove
  refine rb_find L.1 (fun x hx hk => br_f (nI_ne0 (rb_node L.1 hx).1 (by have := (rb_node L.1 hx).2; omega)) ?_) (fun _ => br_t rfl (H _ _ _ _ _ _ _ _ _ T fl L))
  obtain ⟨A, B, e⟩ := List.append_of_mem hx
  exact rb_removeNode L e (fun cur' root' free' ch' pa' rd' sz' tot' T' fl' L' _ => H _ _ _ _ _ _ _ _ _ T' fl' L')
theorem rb_seek {post : Int32 → St1 → Prop} {T : rb_T} {k : Int32} (r : rb_R root ch pa key val sz tot T)
    (H : ∀ c cur', post c (rb_st root free cur' ch pa rd key val sz tot)) :
    wpX_seek post (rb_st root free cur ch pa rd key val sz tot) k := by
  unfold wpX_seek
  exact rb_ceiling r (fun x _ => rb_below (cur := nI x) r (H _ _)) (fun _ => rb_below (cur := 0) r (H _ _))
end
section
variable {key val : Nat → Int32}
theorem rb_ra {post : Int32 → St1 → Prop} {lo hi : Int32} : ∀ (c g step f : Nat) (root free : Nat) (cur : Int32) (ch : Bool → Nat → Nat) (pa : Nat → Nat) (rd : Nat → Bool) (sz : Nat → Int32) (tot : Nat → Int64) (T : rb_T) (fl : List Nat), rb_L root free ch pa rd key val sz tot T fl → rb_ct key (rb_io T) lo hi = c → step + c ≤ 48 → c < f →
    (∀ cur' root' free' ch' pa' rd' sz' tot' T' fl', rb_L root' free' ch' pa' rd' key val sz' tot' T' fl' → rb_ct key (rb_io T') lo hi = 0 → post (nI (g + c)) (rb_st root' free' cur' ch' pa' rd' key val sz' tot')) →
    wX_removeAll_5 post lo hi f (nI g) (nI step) (nI root) (nI free) cur (fun k => nI (ch false k)) (fun k => nI (ch true k)) (fun k => nI (pa k)) (fun k => rb_bI (rd k)) key val sz tot := by
  intro c
  induction c with
  | zero =>
    intro g step f root free cur ch pa rd sz tot T fl L hc hs hf H
    obtain ⟨f, rfl⟩ : ∃ g, f = g + 1 := ⟨f - 1, by omega⟩
    have Q := H cur root free ch pa rd sz tot T fl L hc
    refine br_c (fun _ => Q) (fun _ => rb_ceiling (rd := rd) L.1 (fun x ex => ?_) (fun _ => br_t rfl Q))
    obtain ⟨p1, A, B, e, hA⟩ := List.find?_eq_some_iff_append.mp ex
    have hx := rb_node L.1 (x := x) (by rw [e]; simp)
    refine br_f (nI_ne0 hx.1 (by omega)) ⟨rb_in48 hx.2, br_f (fun z => ?_) Q⟩
    rw [rb_cl48 hx.2] at z
    unfold rb_ct at hc
    rw [List.countP_eq_zero] at hc
    exact hc x (by rw [e]; simp) (decide_eq_true ⟨of_decide_eq_true p1, z⟩)
  | succ c ih =>
    intro g step f root free cur ch pa rd sz tot T fl L hc hs hf H
    obtain ⟨f, rfl⟩ : ∃ g, f = g + 1 := ⟨f - 1, by omega⟩
    have so := L.1.2.1
    have hpos : ∃ z, z ∈ rb_io T ∧ lo ≤ key z ∧ key z ≤ hi := by
      have : 0 < (rb_io T).countP (fun x => decide (lo ≤ key x ∧ key x ≤ hi)) := by
        have h := hc
        unfold rb_ct at h
        omega
      rw [List.countP_pos_iff] at this
      obtain ⟨z, hz, hd⟩ := this
      exact ⟨z, hz, of_decide_eq_true hd⟩
    refine br_f (nI_ge (b := 48) (by omega) (by omega)) (rb_ceiling (rd := rd) L.1 (fun x ex => ?_) (fun en => ?_))
    · obtain ⟨p1, A, B, e, hA⟩ := List.find?_eq_some_iff_append.mp ex
      have hx := rb_node L.1 (x := x) (by rw [e]; simp)
      have hlo : lo ≤ key x := of_decide_eq_true p1
      have hhi : key x ≤ hi := by
        obtain ⟨z, hz, z1, z2⟩ := hpos
        rw [e] at so hz
        obtain ⟨_, _, kl, kr⟩ := rb_So_mid so
        simp only [List.mem_append, List.mem_cons] at hz
        rcases hz with q | q | q
        · have := hA z q
          simp [z1] at this
        · rw [← q]; exact z2
        · exact Int32.le_trans (Int32.le_of_lt (kr z q)) z2
      refine br_f (nI_ne0 hx.1 (by omega)) ⟨rb_in48 hx.2, br_t (by rw [rb_cl48 hx.2]; exact hhi) ?_⟩
      refine rb_removeNode L e (fun cur' root' free' ch' pa' rd' sz' tot' T' fl' L' e' => nm_r (nI_1 g) (nm_r (nI_1 step) ?_))
      refine ih (g + 1) (step + 1) f root' free' cur' ch' pa' rd' sz' tot' T' fl' L' ?_ (by omega) (by omega) (fun cur2 root2 free2 ch2 pa2 rd2 sz2 tot2 T2 fl2 L2 c2 => ?_)
      · rw [e'] 
        rw [e] at hc
        unfold rb_ct at hc ⊢
        rw [List.countP_append, List.countP_cons, if_pos (decide_eq_true ⟨hlo, hhi⟩)] at hc
        rw [List.countP_append]
        omega
      · rw [show g + 1 + c = g + (c + 1) by omega]
        exact H _ _ _ _ _ _ _ _ T2 fl2 L2 c2
    · obtain ⟨z, hz, z1, z2⟩ := hpos
      rw [List.find?_eq_none] at en
      exact absurd (decide_eq_true z1) (en z hz)
theorem rb_removeAll {post : Int32 → St1 → Prop} {lo hi : Int32} {root free : Nat} {cur : Int32} {ch : Bool → Nat → Nat} {pa : Nat → Nat} {rd : Nat → Bool} {sz : Nat → Int32} {tot : Nat → Int64} {T : rb_T} {fl : List Nat} (L : rb_L root free ch pa rd key val sz tot T fl)
    (H : ∀ cur' root' free' ch' pa' rd' sz' tot' T' fl', rb_L root' free' ch' pa' rd' key val sz' tot' T' fl' → rb_ct key (rb_io T') lo hi = 0 → post (nI (rb_ct key (rb_io T) lo hi)) (rb_st root' free' cur' ch' pa' rd' key val sz' tot')) :
    wpX_removeAll post (rb_st root free cur ch pa rd key val sz tot) lo hi := by
  have h1 : rb_ct key (rb_io T) lo hi ≤ (rb_io T).length := List.countP_le_length
  have h2 := rb_Rlen L.1
  refine ⟨49, rb_ra _ 0 0 49 root free cur ch pa rd sz tot T fl L rfl (by omega) (by omega) (fun cur' root' free' ch' pa' rd' sz' tot' T' fl' L' c' => ?_)⟩
  rw [Nat.zero_add]
  exact H _ _ _ _ _ _ _ _ T' fl' L' c'
end
end
section
/-! the constructor, one round of the law -/
def rb_ip (i k : Nat) : Nat := if 1 ≤ k ∧ k < i ∧ k ≠ 48 then k + 1 else 0
theorem rb_ip_s {i : Nat} (h0 : 1 ≤ i) (h : i < 48) : upd (fun k => nI (rb_ip i k)) i (nI (i + 1)) = fun k => nI (rb_ip (i + 1) k) := by
  rw [rb_up1]
  funext k
  congr 1
  unfold rb_set rb_ip
  by_cases z : k = i
  · subst z
    rw [if_pos rfl, if_pos ⟨h0, by omega, by omega⟩]
  · rw [if_neg z]
    by_cases q : 1 ≤ k ∧ k < i ∧ k ≠ 48
    · rw [if_pos q, if_pos ⟨q.1, by omega, q.2.2⟩]
    · rw [if_neg q, if_neg (fun w => q ⟨w.1, by omega, w.2.2⟩)]
theorem rb_ip_e : upd (fun k => nI (rb_ip 48 k)) 48 0 = fun k => nI (rb_ip 49 k) := by
  have := rb_up1 (rb_ip 48) 48 0
  refine Eq.trans this ?_
  funext k
  congr 1
  unfold rb_set rb_ip
  by_cases z : k = 48
  · subst z
    rw [if_pos rfl, if_neg (fun w => w.2.2 rfl)]
  · rw [if_neg z]
    by_cases q : 1 ≤ k ∧ k < 48 ∧ k ≠ 48
    · rw [if_pos q, if_pos ⟨q.1, by omega, q.2.2⟩]
    · rw [if_neg q, if_neg (fun w => q ⟨w.1, by omega, w.2.2⟩)]
theorem rb_init_l {post : St1 → Prop} {mc ms kc ks : Nat} {f0 f1 f2 : Int32} {a1 a2 a4 a5 a6 a7 : Nat → Int32} {a8 : Nat → Int64} (H : post (f0, 1, f2, a1, a2, fun k => nI (rb_ip 49 k), a4, a5, a6, a7, a8)) : ∀ (m i f : Nat), i + m = 49 → 1 ≤ i → m < f → wX_init_70 post mc ms kc ks f0 f1 f2 f (nI i) a1 a2 (fun k => nI (rb_ip i k)) a4 a5 a6 a7 a8 := by
  intro m
  induction m with
  | zero =>
    intro i f e h1 hf
    obtain ⟨f, rfl⟩ : ∃ g, f = g + 1 := ⟨f - 1, by omega⟩
    have : i = 49 := by omega
    subst this
    exact br_t (nI_le (a := 49) (b := 49) (by omega) (by omega)) H
  | succ m ih =>
    intro i f e h1 hf
    obtain ⟨f, rfl⟩ : ∃ g, f = g + 1 := ⟨f - 1, by omega⟩
    refine br_f (nI_ge (b := 49) (by omega) (by omega)) ?_
    refine pk_eq i 48 (fun z => ⟨rb_in48 (by omega), ?_⟩) (fun z => ⟨rb_in48 (by omega), ?_⟩)
    · subst z
      refine nm_r (e' := fun k => nI (rb_ip 49 k)) (by rw [rb_cl48 (by omega)]; exact rb_ip_e) (nm_r (nI_1 48) (ih 49 f (by omega) (by omega) (by omega)))
    · refine nm_r (e' := fun k => nI (rb_ip (i + 1) k)) (by rw [rb_cl48 (by omega), nI_1]; exact rb_ip_s h1 (by omega)) (nm_r (nI_1 i) (ih (i + 1) f (by omega) (by omega) (by omega)))
theorem rb_FL_r : ∀ (n s : Nat), s + n = 49 → 1 ≤ s → rb_FL (rb_ip 49) (List.range' s n) (if n = 0 then 0 else s) := by
  intro n
  induction n with
  | zero => intro s _ _; rfl
  | succ n ih =>
    intro s e h1
    have := ih (s + 1) (by omega) (by omega)
    refine ⟨by simp, ?_⟩
    have e2 : rb_ip 49 s = if n = 0 then 0 else s + 1 := by
      unfold rb_ip
      by_cases z : n = 0
      · rw [if_pos z, if_neg (fun w => w.2.2 (by omega))]
      · rw [if_neg z, if_pos ⟨h1, by omega, by omega⟩]
    rw [e2]
    exact this
theorem rb_L0 : rb_L 0 1 (fun _ _ => 0) (rb_ip 49) (fun _ => false) (fun _ => 0) (fun _ => 0) (fun _ => 0) (fun _ => 0) (.leaf ()) (List.range' 1 48) := by
  refine ⟨⟨⟨⟨rfl, trivial, List.Pairwise.nil, fun k hk => by simp [rb_io] at hk, fun _ _ => Nat.zero_le 48, fun k => ?_⟩, trivial, rfl, rfl⟩, List.Pairwise.nil, rfl⟩, ⟨0, rfl, rfl⟩, rfl, rb_FL_r 48 1 (by omega) (by omega), ?_, fun x hx => ?_, ?_⟩
  · unfold rb_ip
    split <;> omega
  · simp only [rb_io, List.nil_append]
    exact List.nodup_range'
  · rw [List.mem_range'_1] at hx
    omega
  · simp [rb_io]
section
variable {post : Int32 → Prop} {L : Nat} {xs : Nat → Int32} {kc ks : Nat} {root free : Nat} {cur : Int32} {ch : Bool → Nat → Nat} {pa : Nat → Nat} {rd : Nat → Bool} {key val sz : Nat → Int32} {tot : Nat → Int64} {T : rb_T} {fl : List Nat}
theorem rb_l246 {f i : Nat} {a b : Int32} (hi : i + 3 ≤ L) (hL : L ≤ 260) (I : rb_L root free ch pa rd key val sz tot T fl)
    (J : ∀ cur', wL_law_10 post L xs kc ks f (nI (i + 3)) (nI root) (nI free) cur' (fun k => nI (ch false k)) (fun k => nI (ch true k)) (fun k => nI (pa k)) (fun k => rb_bI (rd k)) key val sz tot) :
    wL_law_246 post L xs (wL_law_10 post L xs kc ks f) (nI i) a b kc ks (nI root) (nI free) cur (fun k => nI (ch false k)) (fun k => nI (ch true k)) (fun k => nI (pa k)) (fun k => rb_bI (rd k)) key val sz tot := by
  have r := I.1
  have e2 : nI i + 2 = nI (i + 2) := nI_add i 2
  have e3 : nI i + 3 = nI (i + 3) := nI_add i 3
  unfold wL_law_246
  refine rb_key r (br_f (by decide) (rb_key r (br_f (by decide) ⟨by rw [e2]; exact pk_in (i + 2) L (by omega), rb_ranges r (br_f (by decide) ⟨by decide, ?_⟩)⟩)))
  obtain ⟨t, ht, et⟩ := pk_andE b (m := 255) 8 (by decide)
  have e50 : (b &&& 255) - (b &&& 255) / 50 * 50 = nI (t % 50) := by
    rw [et]
    exact pk_rem (d := 50) (by omega) (by omega) (by omega)
  rw [e50]
  exact rb_cursor (Nat.mod_lt _ (by omega)) r (fun cur' => br_f (by decide) (nm_r e3 (J cur')))
theorem rb_l239 {f i : Nat} {a b : Int32} (hi : i + 3 ≤ L) (hL : L ≤ 260) (I : rb_L root free ch pa rd key val sz tot T fl)
    (J : ∀ cur', wL_law_10 post L xs kc ks f (nI (i + 3)) (nI root) (nI free) cur' (fun k => nI (ch false k)) (fun k => nI (ch true k)) (fun k => nI (pa k)) (fun k => rb_bI (rd k)) key val sz tot) :
    wL_law_239 post L xs (wL_law_10 post L xs kc ks f) (nI i) a b kc ks (nI root) (nI free) cur (fun k => nI (ch false k)) (fun k => nI (ch true k)) (fun k => nI (pa k)) (fun k => rb_bI (rd k)) key val sz tot := by
  unfold wL_law_239
  exact rb_seek I.1 (fun c cur' => rb_l246 hi hL I J)
end
section
variable {post : Int32 → Prop} {L : Nat} {xs : Nat → Int32} {kc ks : Nat} {root free : Nat} {cur : Int32} {ch : Bool → Nat → Nat} {pa : Nat → Nat} {rd : Nat → Bool} {key val sz : Nat → Int32} {tot : Nat → Int64} {T : rb_T} {fl : List Nat}
theorem rb_l91 {f i : Nat} {x3 a b : Int32} (hi : i + 3 ≤ L) (hL : L ≤ 260) (I : rb_L root free ch pa rd key val sz tot T fl)
    (J : ∀ root free cur ch pa rd key val sz tot T fl, rb_L root free ch pa rd key val sz tot T fl → wL_law_10 post L xs kc ks f (nI (i + 3)) (nI root) (nI free) cur (fun k => nI (ch false k)) (fun k => nI (ch true k)) (fun k => nI (pa k)) (fun k => rb_bI (rd k)) key val sz tot) :
    wL_law_91 post L xs (wL_law_10 post L xs kc ks f) (nI i) x3 a b kc ks (nI root) (nI free) cur (fun k => nI (ch false k)) (fun k => nI (ch true k)) (fun k => nI (pa k)) (fun k => rb_bI (rd k)) key val sz tot := by
  have r := I.1
  have e2 : nI i + 2 = nI (i + 2) := nI_add i 2
  have in2 : vp_in (nI i + 2) L := by rw [e2]; exact pk_in (i + 2) L (by omega)
  have M239 := rb_l239 (cur := cur) (a := a) (b := b) hi hL I (fun cur' => J _ _ cur' _ _ _ _ _ _ _ T fl I)
  unfold wL_law_91
  refine br_c (fun _ => br_c (fun _ => br_c (fun _ => ⟨pk_in i L (by omega), br_c (fun _ => ?_) (fun _ => M239)⟩) (fun _ => M239)) (fun _ => ?_)) (fun _ => ?_)
  · refine rb_count r (rb_removeAll I (fun cur' root' free' ch' pa' rd' sz' tot' T' fl' I' c0 => br_t rfl (rb_count I'.1 (br_t (by rw [c0]; rfl) ?_))))
    exact rb_l246 hi hL I' (fun cur2 => J _ _ cur2 _ _ _ _ _ _ _ T' fl' I')
  · exact rb_remove I (fun c cur' root' free' ch' pa' rd' sz' tot' T' fl' I' => rb_l246 hi hL I' (fun cur2 => J _ _ cur2 _ _ _ _ _ _ _ T' fl' I'))
  · refine rb_count r ⟨in2, ?_⟩
    rw [rb_ct_all]
    refine rb_put I (fun h48 => br_t rfl (br_t (by rw [h48]; rfl) ?_)) (fun c root' free' ch' pa' rd' key' val' sz' tot' T' fl' x hc I' hx hk hv => br_f ?_ (rb_get I'.1 hx hk ⟨in2, br_t hv (rb_count I'.1 (br_t ?_ ?_))⟩))
    · unfold wL_law_166
      exact rb_l246 hi hL I (fun cur2 => J _ _ cur2 _ _ _ _ _ _ _ T fl I)
    · rcases hc with q | q <;> rw [q] <;> decide
    · have e := rb_ct_in I'.1.2.1 hx hk (Int32.le_refl a)
      rw [show rb_ct key' (rb_io T') a a = 1 by omega]
      rfl
    · unfold wL_law_166
      exact rb_l246 hi hL I' (fun cur2 => J _ _ cur2 _ _ _ _ _ _ _ T' fl' I')
end
theorem rb_law {post : Int32 → Prop} {L : Nat} {xs : Nat → Int32} {kc ks : Nat} (hL : L ≤ 260) (hp : post 1) : ∀ (m i f : Nat) (root free : Nat) (cur : Int32) (ch : Bool → Nat → Nat) (pa : Nat → Nat) (rd : Nat → Bool) (key val sz : Nat → Int32) (tot : Nat → Int64) (T : rb_T) (fl : List Nat), rb_L root free ch pa rd key val sz tot T fl → L ≤ i + m → i ≤ L → m < f →
    wL_law_10 post L xs kc ks f (nI i) (nI root) (nI free) cur (fun k => nI (ch false k)) (fun k => nI (ch true k)) (fun k => nI (pa k)) (fun k => rb_bI (rd k)) key val sz tot := by
  intro m
  induction m with
  | zero =>
    intro i f root free cur ch pa rd key val sz tot T fl I h1 h2 hf
    obtain ⟨f, rfl⟩ : ∃ g, f = g + 1 := ⟨f - 1, by omega⟩
    exact pk_lt L (i + 3) (fun _ => hp) (fun z => absurd z (by omega)) (hy := nI_add i 3)
  | succ m ih =>
    intro i f root free cur ch pa rd key val sz tot T fl I h1 h2 hf
    obtain ⟨f, rfl⟩ : ∃ g, f = g + 1 := ⟨f - 1, by omega⟩
    refine pk_lt L (i + 3) (fun _ => hp) (fun z => ?_) (hy := nI_add i 3)
    have e1 : nI i + 1 = nI (i + 1) := nI_add i 1
    have e2 : nI i + 2 = nI (i + 2) := nI_add i 2
    have in0 : vp_in (nI i) L := pk_in i L (by omega)
    have in1 : vp_in (nI i + 1) L := by rw [e1]; exact pk_in (i + 1) L (by omega)
    have in2 : vp_in (nI i + 2) L := by rw [e2]; exact pk_in (i + 2) L (by omega)
    have M : ∀ x3 a b, wL_law_91 post L xs (wL_law_10 post L xs kc ks f) (nI i) x3 a b kc ks (nI root) (nI free) cur (fun k => nI (ch false k)) (fun k => nI (ch true k)) (fun k => nI (pa k)) (fun k => rb_bI (rd k)) key val sz tot := fun x3 a b => rb_l91 (by omega) hL I (fun root free cur ch pa rd key val sz tot T fl I' => ih (i + 3) f root free cur ch pa rd key val sz tot T fl I' (by omega) (by omega) (by omega))
    have M57 : ∀ x3 a, wL_law_57 post L xs (wL_law_10 post L xs kc ks f) (nI i) x3 a kc ks (nI root) (nI free) cur (fun k => nI (ch false k)) (fun k => nI (ch true k)) (fun k => nI (pa k)) (fun k => rb_bI (rd k)) key val sz tot := by
      intro x3 a
      unfold wL_law_57
      exact ⟨in2, br_c (fun _ => ⟨in2, M _ _ _⟩) (fun _ => ⟨in2, by decide, M _ _ _⟩)⟩
    exact ⟨in0, nm_e ⟨in1, br_c (fun _ => ⟨in1, M57 _ _⟩) (fun _ => ⟨in1, by decide, M57 _ _⟩)⟩⟩
end
section
theorem rb_ip1 : (fun k => nI (rb_ip 1 k)) = fun _ => 0 := by
  funext k
  unfold rb_ip
  rw [if_neg (by omega)]
  rfl
theorem i_vc (xs : Nat → Int32) (L : Nat) (hL : L ≤ 260) : wpL_law (fun r => r = 1) L xs := by
  have Q := rb_law (post := fun r => r = 1) (xs := xs) (kc := 1 + 8) (ks := 11 + 392) hL (show (1 : Int32) = 1 from rfl) 261 0 262 0 1 0 (fun _ _ => 0) (rb_ip 49) (fun _ => false) (fun _ => 0) (fun _ => 0) (fun _ => 0) (fun _ => 0) _ _ rb_L0 (by omega) (by omega) (by omega)
  refine ⟨8, 392, by omega, by omega, ?_⟩
  unfold wpX_init
  refine ⟨by omega, by omega, by omega, by omega, by omega, by omega, by omega, by omega, by omega, by omega, by omega, by omega, by omega, by omega, by omega, by omega, 49, ?_⟩
  rw [← rb_ip1]
  refine rb_init_l ?_ 48 1 49 (by omega) (by omega) (by omega)
  rw [rb_ip1]
  exact ⟨262, Q⟩
end
