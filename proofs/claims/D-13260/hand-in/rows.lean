section
/-! ===== numbers: ds_m c is c - 1 (a count of records, as the walks keep it) ===== -/
def ds_m (c : Nat) : Int32 := nI c + (-1)
theorem ds_m0 : ds_m 0 = -1 := by decide
theorem ds_mS (c : Nat) : ds_m (c + 1) = nI c := pk_m1 c
theorem ds_m1 (c : Nat) : ds_m c + 1 = ds_m (c + 1) := by
  rw [ds_mS]
  unfold ds_m
  rw [Int32.add_assoc, show ((-1 : Int32) + 1) = 0 from by decide, Int32.add_zero]
theorem ds_mz (c : Nat) : ds_m c + 0 = ds_m c := Int32.add_zero _
theorem ds_nz (c : Nat) : nI c + 0 = nI c := Int32.add_zero _
theorem ds_m_ti {c : Nat} (h : c < 2 ^ 31) : (ds_m c).toInt = (c : Int) - 1 := by
  cases c with
  | zero => decide
  | succ c =>
    rw [ds_mS, nI_toInt (by omega)]
    omega
theorem ds_m_eq {c k : Nat} (hc : c < 2 ^ 31) (hk : k < 2 ^ 31) : ds_m c = nI k ↔ c = k + 1 := by
  rw [← Int32.toInt_inj, ds_m_ti hc, nI_toInt hk]
  omega
theorem ds_m_mm {c k : Nat} (hc : c < 2 ^ 31) (hk : k < 2 ^ 31) : ds_m c = ds_m k ↔ c = k := by
  rw [← Int32.toInt_inj, ds_m_ti hc, ds_m_ti hk]
  omega
theorem ds_m_ge {e c : Nat} (he : e < 2 ^ 31) (hc : c < 2 ^ 31) : nI e ≤ ds_m c ↔ e < c := by
  rw [Int32.le_iff_toInt_le, ds_m_ti hc, nI_toInt he]
  omega
/-! ===== arrays hold lists ===== -/
def ds_ok (a : Nat → Int32) (l : List Nat) : Prop := ∀ i v, l[i]? = some v → a i = nI v
theorem ds_ok_0 (a : Nat → Int32) : ds_ok a [] := fun i v h => by simp at h
theorem ds_ok_at {a : Nat → Int32} {l p s : List Nat} {v k : Nat} (h : ds_ok a l) (e : l = p ++ v :: s) (hk : k = p.length) : a k = nI v := h k v (by rw [e, hk]; simp)
theorem ds_ok_push {a : Nat → Int32} {l : List Nat} {v k : Nat} (h : ds_ok a l) (hk : k = l.length) : ds_ok (upd a k (nI v)) (l ++ [v]) := by
  intro i w hw
  subst hk
  rcases Nat.lt_trichotomy i l.length with q | q | q
  · rw [pk_un (by omega)]
    rw [List.getElem?_append_left q] at hw
    exact h i w hw
  · subst q
    rw [pk_us]
    simp at hw
    rw [hw]
  · exfalso
    rw [List.getElem?_eq_none (by simp; omega)] at hw
    cases hw
/-! ===== blocks: (kind, tag, values); kind 0: a record without groups, 1: a record's first group, 2: a further group ===== -/
abbrev ds_B : Type := Nat × Nat × List Nat
abbrev ds_R : Type := List (Nat × List Nat)
def ds_ag (b : ds_B) : Nat := if b.1 = 2 then 1 else 0
def ds_nw (b : ds_B) : Nat := if b.1 = 2 then 0 else 1
def ds_tdp (b : ds_B) : Nat := if b.1 = 0 then 0 else if b.2.1 = 0 then 1 else 2
def ds_vdp (b : ds_B) : Nat := if b.1 = 0 then 0 else if b.2.2.length = 0 then 1 else 2
def ds_tg (b : ds_B) : List Nat := if ds_tdp b = 2 then [b.2.1] else []
def ds_ea (b : ds_B) : List Nat := ds_ag b :: List.replicate (b.2.2.length - 1) 2
def ds_ed (b : ds_B) : List Nat := ds_vdp b :: List.replicate (b.2.2.length - 1) 2
def ds_ta (J : List ds_B) : List Nat := J.map ds_ag
def ds_td (J : List ds_B) : List Nat := J.map ds_tdp
def ds_tl : List ds_B → List Nat
  | [] => []
  | b :: J => ds_tg b ++ ds_tl J
def ds_va : List ds_B → List Nat
  | [] => []
  | b :: J => ds_ea b ++ ds_va J
def ds_vd : List ds_B → List Nat
  | [] => []
  | b :: J => ds_ed b ++ ds_vd J
def ds_vl : List ds_B → List Nat
  | [] => []
  | b :: J => b.2.2 ++ ds_vl J
def ds_rc : List ds_B → Nat
  | [] => 0
  | b :: J => ds_nw b + ds_rc J
theorem ds_ta_app (P Q : List ds_B) : ds_ta (P ++ Q) = ds_ta P ++ ds_ta Q := List.map_append
theorem ds_td_app (P Q : List ds_B) : ds_td (P ++ Q) = ds_td P ++ ds_td Q := List.map_append
theorem ds_ta_len (P : List ds_B) : (ds_ta P).length = P.length := List.length_map ..
theorem ds_td_len (P : List ds_B) : (ds_td P).length = P.length := List.length_map ..
theorem ds_tl_app (P Q : List ds_B) : ds_tl (P ++ Q) = ds_tl P ++ ds_tl Q := by
  induction P with
  | nil => rfl
  | cons b P ih => rw [List.cons_append, ds_tl, ds_tl, ih, List.append_assoc]
theorem ds_va_app (P Q : List ds_B) : ds_va (P ++ Q) = ds_va P ++ ds_va Q := by
  induction P with
  | nil => rfl
  | cons b P ih => rw [List.cons_append, ds_va, ds_va, ih, List.append_assoc]
theorem ds_vd_app (P Q : List ds_B) : ds_vd (P ++ Q) = ds_vd P ++ ds_vd Q := by
  induction P with
  | nil => rfl
  | cons b P ih => rw [List.cons_append, ds_vd, ds_vd, ih, List.append_assoc]
theorem ds_vl_app (P Q : List ds_B) : ds_vl (P ++ Q) = ds_vl P ++ ds_vl Q := by
  induction P with
  | nil => rfl
  | cons b P ih => rw [List.cons_append, ds_vl, ds_vl, ih, List.append_assoc]
theorem ds_rc_app (P Q : List ds_B) : ds_rc (P ++ Q) = ds_rc P + ds_rc Q := by
  induction P with
  | nil => rw [List.nil_append, ds_rc, Nat.zero_add]
  | cons b P ih => rw [List.cons_append, ds_rc, ds_rc, ih, Nat.add_assoc]
theorem ds_tl_1 (b : ds_B) : ds_tl [b] = ds_tg b := by rw [ds_tl, ds_tl, List.append_nil]
theorem ds_va_1 (b : ds_B) : ds_va [b] = ds_ea b := by rw [ds_va, ds_va, List.append_nil]
theorem ds_vd_1 (b : ds_B) : ds_vd [b] = ds_ed b := by rw [ds_vd, ds_vd, List.append_nil]
theorem ds_vl_1 (b : ds_B) : ds_vl [b] = b.2.2 := by rw [ds_vl, ds_vl, List.append_nil]
theorem ds_rc_1 (b : ds_B) : ds_rc [b] = ds_nw b := by rw [ds_rc, ds_rc, Nat.add_zero]
theorem ds_vd_len (P : List ds_B) : (ds_vd P).length = (ds_va P).length := by
  induction P with
  | nil => rfl
  | cons b P ih =>
    rw [ds_va, ds_vd, List.length_append, List.length_append, ih]
    simp [ds_ea, ds_ed]
theorem ds_ag_lt (b : ds_B) : ds_ag b < 2 := by unfold ds_ag; split <;> omega
theorem ds_nw_le (b : ds_B) : ds_nw b ≤ 1 := by unfold ds_nw; split <;> omega
theorem ds_tdp_lt (b : ds_B) : ds_tdp b < 3 := by unfold ds_tdp; split <;> (try split) <;> omega
theorem ds_vdp_lt (b : ds_B) : ds_vdp b < 3 := by unfold ds_vdp; split <;> (try split) <;> omega
theorem ds_rc_le (P : List ds_B) : ds_rc P ≤ P.length := by
  induction P with
  | nil => exact Nat.le_refl _
  | cons b P ih =>
    rw [ds_rc, List.length_cons]
    have := ds_nw_le b
    omega
theorem ds_tl_le (P : List ds_B) : (ds_tl P).length ≤ P.length := by
  induction P with
  | nil => exact Nat.le_refl _
  | cons b P ih =>
    rw [ds_tl, List.length_append, List.length_cons]
    have : (ds_tg b).length ≤ 1 := by unfold ds_tg; split <;> simp
    omega
/-- what a block may be -/
def ds_bk (b : ds_B) : Prop := b.1 < 3 ∧ b.2.1 < 4 ∧ b.2.2.length ≤ 2 ∧ (∀ v, v ∈ b.2.2 → v < 16) ∧ (b.1 = 0 → b.2.2 = [])
theorem ds_va_le {P : List ds_B} (h : ∀ b, b ∈ P → ds_bk b) : (ds_va P).length ≤ 2 * P.length := by
  induction P with
  | nil => exact Nat.le_refl _
  | cons b P ih =>
    rw [ds_va, List.length_append, List.length_cons]
    have h1 := ih (fun b hb => h b (List.mem_cons_of_mem _ hb))
    have h2 := (h b (List.mem_cons_self)).2.2.1
    simp only [ds_ea, List.length_cons, List.length_replicate]
    omega
theorem ds_vl_le {P : List ds_B} (h : ∀ b, b ∈ P → ds_bk b) : (ds_vl P).length ≤ 2 * P.length := by
  induction P with
  | nil => exact Nat.le_refl _
  | cons b P ih =>
    rw [ds_vl, List.length_append, List.length_cons]
    have h1 := ih (fun b hb => h b (List.mem_cons_of_mem _ hb))
    have h2 := (h b (List.mem_cons_self)).2.2.1
    omega
/-! ===== the columns in the arrays ===== -/
/-- tags: again, depth, tags -/
def ds_X (LA LD LT : List Nat) (f5 f6 : Int32) (a3 a4 a5 : Nat → Int32) : Prop := f5 = nI LA.length ∧ LD.length = LA.length ∧ f6 = nI LT.length ∧ ds_ok a3 LA ∧ ds_ok a4 LD ∧ ds_ok a5 LT
/-- values: again, depth, values -/
def ds_W (LA LD LV : List Nat) (f7 f8 : Int32) (a6 a7 a8 : Nat → Int32) : Prop := f7 = nI LA.length ∧ LD.length = LA.length ∧ f8 = nI LV.length ∧ ds_ok a6 LA ∧ ds_ok a7 LD ∧ ds_ok a8 LV
def ds_wf (J : List ds_B) : Prop := J.length ≤ 10 ∧ ∀ b, b ∈ J → ds_bk b
def ds_T (J : List ds_B) (f5 f6 : Int32) (a3 a4 a5 : Nat → Int32) : Prop := ds_wf J ∧ ds_X (ds_ta J) (ds_td J) (ds_tl J) f5 f6 a3 a4 a5
def ds_V (J : List ds_B) (f7 f8 : Int32) (a6 a7 a8 : Nat → Int32) : Prop := ds_wf J ∧ ds_W (ds_va J) (ds_vd J) (ds_vl J) f7 f8 a6 a7 a8
theorem ds_wf_app {P Q : List ds_B} (h : ds_wf (P ++ Q)) : ds_wf P ∧ ds_wf Q := by
  refine ⟨⟨?_, fun b hb => h.2 b (List.mem_append_left _ hb)⟩, ⟨?_, fun b hb => h.2 b (List.mem_append_right _ hb)⟩⟩
  · have := h.1
    rw [List.length_append] at this
    omega
  · have := h.1
    rw [List.length_append] at this
    omega
theorem ds_wf_mid {P S : List ds_B} {b : ds_B} (h : ds_wf (P ++ b :: S)) : ds_bk b := h.2 b (by simp)
/-- a tag entry's cells -/
theorem ds_T_at {J P S : List ds_B} {b : ds_B} {f5 f6 : Int32} {a3 a4 a5 : Nat → Int32} (h : ds_T J f5 f6 a3 a4 a5) (e : J = P ++ b :: S) : a3 P.length = nI (ds_ag b) ∧ a4 P.length = nI (ds_tdp b) ∧ (ds_tdp b = 2 → a5 (ds_tl P).length = nI b.2.1) := by
  subst e
  refine ⟨ds_ok_at h.2.2.2.2.1 (p := ds_ta P) (s := ds_ta S) ?_ ?_, ds_ok_at h.2.2.2.2.2.1 (p := ds_td P) (s := ds_td S) ?_ ?_, fun z => ds_ok_at h.2.2.2.2.2.2 (p := ds_tl P) (s := ds_tl S) ?_ rfl⟩
  · rw [ds_ta_app]; rfl
  · rw [ds_ta_len]
  · rw [ds_td_app]; rfl
  · rw [ds_td_len]
  · rw [ds_tl_app, ds_tl]
    unfold ds_tg
    rw [if_pos z]
    rfl
/-- a value block's first cells -/
theorem ds_V_at {J P S : List ds_B} {b : ds_B} {f7 f8 : Int32} {a6 a7 a8 : Nat → Int32} (h : ds_V J f7 f8 a6 a7 a8) (e : J = P ++ b :: S) : a6 (ds_va P).length = nI (ds_ag b) ∧ a7 (ds_va P).length = nI (ds_vdp b) ∧ (∀ v vs, b.2.2 = v :: vs → a8 (ds_vl P).length = nI v) := by
  subst e
  refine ⟨ds_ok_at h.2.2.2.2.1 (p := ds_va P) (s := List.replicate (b.2.2.length - 1) 2 ++ ds_va S) ?_ rfl, ds_ok_at h.2.2.2.2.2.1 (p := ds_vd P) (s := List.replicate (b.2.2.length - 1) 2 ++ ds_vd S) ?_ (ds_vd_len P).symm, fun v vs z => ds_ok_at h.2.2.2.2.2.2 (p := ds_vl P) (s := vs ++ ds_vl S) ?_ rfl⟩
  · rw [ds_va_app]; rfl
  · rw [ds_vd_app]; rfl
  · rw [ds_vl_app, ds_vl, z]
    rfl
/-- a value block's second cells -/
theorem ds_V_at2 {J P S : List ds_B} {b : ds_B} {f7 f8 : Int32} {a6 a7 a8 : Nat → Int32} (h : ds_V J f7 f8 a6 a7 a8) (e : J = P ++ b :: S) {v w : Nat} (hv : b.2.2 = [v, w]) : a6 ((ds_va P).length + 1) = nI 2 ∧ a7 ((ds_va P).length + 1) = nI 2 ∧ a8 ((ds_vl P).length + 1) = nI w := by
  subst e
  refine ⟨ds_ok_at h.2.2.2.2.1 (p := ds_va P ++ [ds_ag b]) (s := ds_va S) ?_ ?_, ds_ok_at h.2.2.2.2.2.1 (p := ds_vd P ++ [ds_vdp b]) (s := ds_vd S) ?_ ?_, ds_ok_at h.2.2.2.2.2.2 (p := ds_vl P ++ [v]) (s := ds_vl S) ?_ ?_⟩
  · rw [ds_va_app, ds_va, ds_ea, hv]; simp
  · simp
  · rw [ds_vd_app, ds_vd, ds_ed, hv]; simp
  · simp [ds_vd_len]
  · rw [ds_vl_app, ds_vl, hv]; simp
  · simp
end
section
/-! ===== findTag, findValue: one entry, a run of blocks, the whole ===== -/
section
variable {post : St1 → Prop} {f1 f2 f3 f4 f5 f6 f7 f8 f9 f10 f11 f12 f13 : Int32} {a1 a2 a3 a4 a5 a6 a7 a8 : Nat → Int32}
theorem ds_ft_1 {rq grp c g e p E a d n c' g' p' : Nat} (hE : e < E) (hE' : E ≤ 52) (h5 : f5 = nI E) (ha : a3 e = nI a) (hd : a4 e = nI d) (hab : a < 3) (hdb : d < 3) (hcb : c < 1000) (hgb : g < 1000) (hrb : rq < 1000) (hgrb : grp < 1000)
    (hc : c' = if a = 0 then c + 1 else c) (hg : g' = if a = 0 then 0 else g + 1) (hp : p' = if d = 2 then p + 1 else p)
    (H1 : c' = rq + 1 → g' = grp → post (f1, f2, f3, f4, f5, f6, f7, f8, f9, f10, f11, nI e, nI p, a1, a2, a3, a4, a5, a6, a7, a8))
    (H2 : ¬ (c' = rq + 1 ∧ g' = grp) → wX_findTag_18 post (nI rq) (nI grp) f1 f2 f3 f4 f5 f6 f7 f8 f9 f10 f11 f12 a1 a2 a3 a4 a5 a6 a7 a8 n (ds_m c') (nI g') (nI (e + 1)) (nI p')) :
    wX_findTag_18 post (nI rq) (nI grp) f1 f2 f3 f4 f5 f6 f7 f8 f9 f10 f11 f12 a1 a2 a3 a4 a5 a6 a7 a8 (n + 1) (ds_m c) (nI g) (nI e) (nI p) := by
  have he : (nI e).toNatClampNeg = e := nI_clamp (by omega)
  have ha' : a3 (nI e).toNatClampNeg = nI a := by rw [he]; exact ha
  have hd' : a4 (nI e).toNatClampNeg = nI d := by rw [he]; exact hd
  have i1 : vp_in (nI e) 52 := pk_in e 52 (by omega)
  have hcl : c' < 2000 := by rw [hc]; split <;> omega
  have hgl : g' < 2000 := by rw [hg]; split <;> omega
  have k99 : ¬ (c' = rq + 1 ∧ g' = grp) → wX_findTag_83 post (wX_findTag_18 post (nI rq) (nI grp) f1 f2 f3 f4 f5 f6 f7 f8 f9 f10 f11 f12 a1 a2 a3 a4 a5 a6 a7 a8 n) (nI rq) (nI grp) (ds_m c') (nI g') (nI e) f1 f2 f3 f4 f5 f6 f7 f8 f9 f10 f11 f12 (nI p) a1 a2 a3 a4 a5 a6 a7 a8 := by
    intro hn
    have h2 := H2 hn
    refine ⟨i1, pk_eq d 2 (fun z => nm_r (nI_1 p) (nm_r (nI_1 e) ?_)) (fun z => nm_r (ds_nz p) (nm_r (nI_1 e) ?_)) hd' rfl⟩
    · rw [hp, if_pos z] at h2
      exact h2
    · rw [hp, if_neg z] at h2
      exact h2
  have k79 : wX_findTag_63 post (wX_findTag_18 post (nI rq) (nI grp) f1 f2 f3 f4 f5 f6 f7 f8 f9 f10 f11 f12 a1 a2 a3 a4 a5 a6 a7 a8 n) (nI rq) (nI grp) (ds_m c') (nI e) (nI g') f1 f2 f3 f4 f5 f6 f7 f8 f9 f10 f11 f12 (nI p) a1 a2 a3 a4 a5 a6 a7 a8 :=
    ek_if (ds_m_eq (by omega) (by omega)) (fun z => pk_eq g' grp (fun z2 => H1 z z2) (fun z2 => k99 (fun q => z2 q.2)) rfl rfl) (fun z => k99 (fun q => z q.1))
  refine br_f (by rw [h5]; exact nI_ge hE (by omega)) ⟨i1, pk_eq a 0 (fun z => ?_) (fun z => ?_) ha' rfl⟩
  · rw [if_pos z] at hc hg
    rw [hc, hg] at k79
    exact nm_r (ds_m1 c) ⟨i1, pk_eq a 0 (fun _ => k79) (fun q => absurd z q) ha' rfl⟩
  · rw [if_neg z] at hc hg
    rw [hc, hg, ← nI_1] at k79
    exact nm_r (ds_mz c) ⟨i1, pk_eq a 0 (fun q => absurd q z) (fun _ => k79) ha' rfl⟩
theorem ds_fv_1 {rq grp c g e p E a d n c' g' p' : Nat} (hE : e < E) (hE' : E ≤ 112) (h7 : f7 = nI E) (ha : a6 e = nI a) (hd : a7 e = nI d) (hab : a < 3) (hdb : d < 3) (hcb : c < 1000) (hgb : g < 1000) (hrb : rq < 1000) (hgrb : grp < 1000)
    (hc : c' = if a = 0 then c + 1 else c) (hg : g' = if a = 0 then 0 else if a = 1 then g + 1 else g) (hp : p' = if d = 2 then p + 1 else p)
    (H1 : c' = rq + 1 → g' = grp → post (f1, f2, f3, f4, f5, f6, f7, f8, f9, f10, f11, nI e, nI p, a1, a2, a3, a4, a5, a6, a7, a8))
    (H2 : ¬ (c' = rq + 1 ∧ g' = grp) → wX_findValue_18 post (nI rq) (nI grp) f1 f2 f3 f4 f5 f6 f7 f8 f9 f10 f11 f12 a1 a2 a3 a4 a5 a6 a7 a8 n (ds_m c') (nI g') (nI (e + 1)) (nI p')) :
    wX_findValue_18 post (nI rq) (nI grp) f1 f2 f3 f4 f5 f6 f7 f8 f9 f10 f11 f12 a1 a2 a3 a4 a5 a6 a7 a8 (n + 1) (ds_m c) (nI g) (nI e) (nI p) := by
  have he : (nI e).toNatClampNeg = e := nI_clamp (by omega)
  have ha' : a6 (nI e).toNatClampNeg = nI a := by rw [he]; exact ha
  have hd' : a7 (nI e).toNatClampNeg = nI d := by rw [he]; exact hd
  have i1 : vp_in (nI e) 112 := pk_in e 112 (by omega)
  have hcl : c' < 2000 := by rw [hc]; split <;> omega
  have hgl : g' < 2000 := by rw [hg]; split <;> (try split) <;> omega
  have k99 : ¬ (c' = rq + 1 ∧ g' = grp) → wX_findValue_99 post (wX_findValue_18 post (nI rq) (nI grp) f1 f2 f3 f4 f5 f6 f7 f8 f9 f10 f11 f12 a1 a2 a3 a4 a5 a6 a7 a8 n) (nI rq) (nI grp) (ds_m c') (nI g') (nI e) f1 f2 f3 f4 f5 f6 f7 f8 f9 f10 f11 f12 (nI p) a1 a2 a3 a4 a5 a6 a7 a8 := by
    intro hn
    have h2 := H2 hn
    refine ⟨i1, pk_eq d 2 (fun z => nm_r (nI_1 p) (nm_r (nI_1 e) ?_)) (fun z => nm_r (ds_nz p) (nm_r (nI_1 e) ?_)) hd' rfl⟩
    · rw [hp, if_pos z] at h2
      exact h2
    · rw [hp, if_neg z] at h2
      exact h2
  have k79 : wX_findValue_79 post (wX_findValue_18 post (nI rq) (nI grp) f1 f2 f3 f4 f5 f6 f7 f8 f9 f10 f11 f12 a1 a2 a3 a4 a5 a6 a7 a8 n) (nI rq) (nI grp) (ds_m c') (nI e) (nI g') f1 f2 f3 f4 f5 f6 f7 f8 f9 f10 f11 f12 (nI p) a1 a2 a3 a4 a5 a6 a7 a8 :=
    ek_if (ds_m_eq (by omega) (by omega)) (fun z => pk_eq g' grp (fun z2 => H1 z z2) (fun z2 => k99 (fun q => z2 q.2)) rfl rfl) (fun z => k99 (fun q => z q.1))
  refine br_f (by rw [h7]; exact nI_ge hE (by omega)) ⟨i1, pk_eq a 0 (fun z => ?_) (fun z => ?_) ha' rfl⟩
  · rw [if_pos z] at hc hg
    rw [hc, hg] at k79
    exact nm_r (ds_m1 c) ⟨i1, pk_eq a 0 (fun _ => k79) (fun q => absurd z q) ha' rfl⟩
  · rw [if_neg z] at hc hg
    refine nm_r (ds_mz c) ⟨i1, pk_eq a 0 (fun q => absurd q z) (fun _ => ⟨i1, pk_eq a 1 (fun q => ?_) (fun q => ?_) ha' rfl⟩) ha' rfl⟩
    · rw [if_pos q] at hg
      rw [hc, hg, ← nI_1] at k79
      exact k79
    · rw [if_neg q] at hg
      rw [hc, hg] at k79
      exact k79
/-- one block, not the one that is sought -/
theorem ds_ft_b {rq grp g n : Nat} {J P S : List ds_B} {b : ds_B} (hT : ds_T J f5 f6 a3 a4 a5) (e : J = P ++ b :: S) (hgb : g < 900) (hrb : rq < 900) (hgrb : grp < 900)
    (hn : ¬ (ds_rc P + ds_nw b = rq + 1 ∧ (if b.1 = 2 then g + 1 else 0) = grp))
    (H : wX_findTag_18 post (nI rq) (nI grp) f1 f2 f3 f4 f5 f6 f7 f8 f9 f10 f11 f12 a1 a2 a3 a4 a5 a6 a7 a8 n (ds_m (ds_rc (P ++ [b]))) (nI (if b.1 = 2 then g + 1 else 0)) (nI (P ++ [b]).length) (nI (ds_tl (P ++ [b])).length)) :
    wX_findTag_18 post (nI rq) (nI grp) f1 f2 f3 f4 f5 f6 f7 f8 f9 f10 f11 f12 a1 a2 a3 a4 a5 a6 a7 a8 (n + 1) (ds_m (ds_rc P)) (nI g) (nI P.length) (nI (ds_tl P).length) := by
  obtain ⟨k1, k2, k3⟩ := ds_T_at hT e
  have hl : J.length = P.length + (S.length + 1) := by rw [e, List.length_append, List.length_cons]
  have hwf := hT.1.1
  have hrc := ds_rc_le P
  have h5 : f5 = nI J.length := by rw [hT.2.1, ds_ta_len]
  have ec : ds_rc (P ++ [b]) = ds_rc P + ds_nw b := by rw [ds_rc_app, ds_rc_1]
  have el : (P ++ [b]).length = P.length + 1 := by rw [List.length_append]; rfl
  have et : (ds_tl (P ++ [b])).length = if ds_tdp b = 2 then (ds_tl P).length + 1 else (ds_tl P).length := by
    rw [ds_tl_app, List.length_append, ds_tl_1]
    unfold ds_tg
    split <;> rfl
  rw [ec, el] at H
  refine ds_ft_1 (c' := ds_rc P + ds_nw b) (g' := if b.1 = 2 then g + 1 else 0) (E := J.length) (a := ds_ag b) (d := ds_tdp b) (by omega) (by omega) h5 k1 k2 (by have := ds_ag_lt b; omega) (ds_tdp_lt b) (by omega) (by omega) (by omega) (by omega) ?_ ?_ et (fun z1 z2 => absurd ⟨z1, z2⟩ hn) (fun _ => H)
  · unfold ds_ag ds_nw
    by_cases q : b.1 = 2
    · simp [q]
    · simp [q]
  · unfold ds_ag
    by_cases q : b.1 = 2
    · simp [q]
    · simp [q]
theorem ds_fv_b {rq grp g n : Nat} {J P S : List ds_B} {b : ds_B} (hV : ds_V J f7 f8 a6 a7 a8) (e : J = P ++ b :: S) (hgb : g < 900) (hrb : rq < 900) (hgrb : grp < 900)
    (hn : ¬ (ds_rc P + ds_nw b = rq + 1 ∧ (if b.1 = 2 then g + 1 else 0) = grp))
    (H : wX_findValue_18 post (nI rq) (nI grp) f1 f2 f3 f4 f5 f6 f7 f8 f9 f10 f11 f12 a1 a2 a3 a4 a5 a6 a7 a8 n (ds_m (ds_rc (P ++ [b]))) (nI (if b.1 = 2 then g + 1 else 0)) (nI (ds_va (P ++ [b])).length) (nI (ds_vl (P ++ [b])).length)) :
    wX_findValue_18 post (nI rq) (nI grp) f1 f2 f3 f4 f5 f6 f7 f8 f9 f10 f11 f12 a1 a2 a3 a4 a5 a6 a7 a8 (n + (ds_ea b).length) (ds_m (ds_rc P)) (nI g) (nI (ds_va P).length) (nI (ds_vl P).length) := by
  obtain ⟨k1, k2, k3⟩ := ds_V_at hV e
  have hbk : ds_bk b := ds_wf_mid (P := P) (S := S) (by rw [← e]; exact hV.1)
  have hwf := hV.1.1
  have hvl := ds_va_le hV.1.2
  have hl : J.length = P.length + (S.length + 1) := by rw [e, List.length_append, List.length_cons]
  have hva : (ds_va J).length = (ds_va P).length + ((ds_ea b).length + (ds_va S).length) := by rw [e, ds_va_app, ds_va, List.length_append, List.length_append]
  have hrc := ds_rc_le P
  have h7 : f7 = nI (ds_va J).length := hV.2.1
  have ec : ds_rc (P ++ [b]) = ds_rc P + ds_nw b := by rw [ds_rc_app, ds_rc_1]
  have ea : (ds_va (P ++ [b])).length = (ds_va P).length + (ds_ea b).length := by rw [ds_va_app, List.length_append, ds_va_1]
  have ev : (ds_vl (P ++ [b])).length = (ds_vl P).length + b.2.2.length := by rw [ds_vl_app, List.length_append, ds_vl_1]
  have hel : (ds_ea b).length = b.2.2.length - 1 + 1 := by simp [ds_ea]
  have e1 : ds_rc P + ds_nw b = if ds_ag b = 0 then ds_rc P + 1 else ds_rc P := by
    unfold ds_ag ds_nw
    by_cases q : b.1 = 2
    · simp [q]
    · simp [q]
  have e2 : (if b.1 = 2 then g + 1 else 0) = if ds_ag b = 0 then 0 else if ds_ag b = 1 then g + 1 else g := by
    unfold ds_ag
    by_cases q : b.1 = 2
    · simp [q]
    · simp [q]
  have hnw := ds_nw_le b
  have hag := ds_ag_lt b
  have hg2 : (if b.1 = 2 then g + 1 else 0) < 1000 := by split <;> omega
  rw [ec, ea, ev] at H
  obtain ⟨kd, tg, vs⟩ := b
  have hv := hbk.2.2.1
  have h0 := hbk.2.2.2.2
  dsimp only at hv h0 ev hel e2 hg2 H hn ⊢
  rcases vs with _ | ⟨v, _ | ⟨w, _ | ⟨x, vs⟩⟩⟩
  · rw [hel] at H hva ⊢
    refine ds_fv_1 (c' := ds_rc P + ds_nw (kd, tg, [])) (g' := if kd = 2 then g + 1 else 0) (p' := (ds_vl P).length) (by omega) (by omega) h7 k1 k2 (by omega) (ds_vdp_lt _) (by omega) (by omega) (by omega) (by omega) e1 e2 ?_ (fun z1 z2 => absurd ⟨z1, z2⟩ hn) (fun _ => H)
    unfold ds_vdp
    by_cases q : kd = 0
    · simp [q]
    · simp [q]
  · rw [hel] at H hva ⊢
    refine ds_fv_1 (c' := ds_rc P + ds_nw (kd, tg, [v])) (g' := if kd = 2 then g + 1 else 0) (p' := (ds_vl P).length + 1) (by omega) (by omega) h7 k1 k2 (by omega) (ds_vdp_lt _) (by omega) (by omega) (by omega) (by omega) e1 e2 ?_ (fun z1 z2 => absurd ⟨z1, z2⟩ hn) (fun _ => H)
    unfold ds_vdp
    by_cases q : kd = 0
    · exact absurd (h0 q) (by simp)
    · simp [q]
  · rw [hel] at H hva ⊢
    obtain ⟨m1, m2, m3⟩ := ds_V_at2 hV e (v := v) (w := w) rfl
    have hz : [v, w].length = 2 := rfl
    refine ds_fv_1 (n := n + 1) (c' := ds_rc P + ds_nw (kd, tg, [v, w])) (g' := if kd = 2 then g + 1 else 0) (p' := (ds_vl P).length + 1) (by omega) (by omega) h7 k1 k2 (by omega) (ds_vdp_lt _) (by omega) (by omega) (by omega) (by omega) e1 e2 ?_ (fun z1 z2 => absurd ⟨z1, z2⟩ hn) (fun _ => ?_)
    · unfold ds_vdp
      by_cases q : kd = 0
      · exact absurd (h0 q) (by simp)
      · simp [q]
    · exact ds_fv_1 (c' := ds_rc P + ds_nw (kd, tg, [v, w])) (g' := if kd = 2 then g + 1 else 0) (p' := (ds_vl P).length + 2) (by omega) (by omega) h7 m1 m2 (by omega) (by omega) (by omega) (by omega) (by omega) (by omega) rfl rfl rfl (fun z1 z2 => absurd ⟨z1, z2⟩ hn) (fun _ => H)
  · exact absurd hv (by simp)
/-- a run over blocks ahead of the record that is sought -/
theorem ds_ft_run {rq grp n : Nat} {J S : List ds_B} (hT : ds_T J f5 f6 a3 a4 a5) (hrb : rq < 900) (hgrb : grp < 900) : ∀ (M P : List ds_B) (g : Nat), J = P ++ (M ++ S) → ds_rc P + ds_rc M ≤ rq → g + M.length < 800 →
    (∀ g', g' < 900 → wX_findTag_18 post (nI rq) (nI grp) f1 f2 f3 f4 f5 f6 f7 f8 f9 f10 f11 f12 a1 a2 a3 a4 a5 a6 a7 a8 n (ds_m (ds_rc (P ++ M))) (nI g') (nI (P ++ M).length) (nI (ds_tl (P ++ M)).length)) →
    wX_findTag_18 post (nI rq) (nI grp) f1 f2 f3 f4 f5 f6 f7 f8 f9 f10 f11 f12 a1 a2 a3 a4 a5 a6 a7 a8 (n + M.length) (ds_m (ds_rc P)) (nI g) (nI P.length) (nI (ds_tl P).length) := by
  intro M
  induction M with
  | nil =>
    intro P g e hr hg H
    have h := H g (by omega)
    rw [List.append_nil] at h
    exact h
  | cons b M ih =>
    intro P g e hr hg H
    rw [ds_rc] at hr
    rw [List.length_cons] at hg
    have hr' : ds_rc (P ++ [b]) + ds_rc M ≤ rq := by rw [ds_rc_app, ds_rc_1]; omega
    refine ds_ft_b (n := n + M.length) hT (P := P) (b := b) (S := M ++ S) (by rw [e]; rfl) (by omega) hrb hgrb (fun q => by omega) ?_
    refine ih (P ++ [b]) _ (by rw [e, List.append_assoc]; rfl) hr' (by split <;> omega) ?_
    rw [List.append_assoc]
    exact H
theorem ds_fv_run {rq grp n : Nat} {J S : List ds_B} (hV : ds_V J f7 f8 a6 a7 a8) (hrb : rq < 900) (hgrb : grp < 900) : ∀ (M P : List ds_B) (g : Nat), J = P ++ (M ++ S) → ds_rc P + ds_rc M ≤ rq → g + M.length < 800 →
    (∀ g', g' < 900 → wX_findValue_18 post (nI rq) (nI grp) f1 f2 f3 f4 f5 f6 f7 f8 f9 f10 f11 f12 a1 a2 a3 a4 a5 a6 a7 a8 n (ds_m (ds_rc (P ++ M))) (nI g') (nI (ds_va (P ++ M)).length) (nI (ds_vl (P ++ M)).length)) →
    wX_findValue_18 post (nI rq) (nI grp) f1 f2 f3 f4 f5 f6 f7 f8 f9 f10 f11 f12 a1 a2 a3 a4 a5 a6 a7 a8 (n + (ds_va M).length) (ds_m (ds_rc P)) (nI g) (nI (ds_va P).length) (nI (ds_vl P).length) := by
  intro M
  induction M with
  | nil =>
    intro P g e hr hg H
    have h := H g (by omega)
    rw [List.append_nil] at h
    exact h
  | cons b M ih =>
    intro P g e hr hg H
    rw [ds_rc] at hr
    rw [List.length_cons] at hg
    have hr' : ds_rc (P ++ [b]) + ds_rc M ≤ rq := by rw [ds_rc_app, ds_rc_1]; omega
    have hl : n + (ds_va (b :: M)).length = n + (ds_va M).length + (ds_ea b).length := by rw [ds_va, List.length_append]; omega
    rw [hl]
    refine ds_fv_b (n := n + (ds_va M).length) hV (P := P) (b := b) (S := M ++ S) (by rw [e]; rfl) (by omega) hrb hgrb (fun q => by omega) ?_
    refine ih (P ++ [b]) _ (by rw [e, List.append_assoc]; rfl) hr' (by split <;> omega) ?_
    rw [List.append_assoc]
    exact H
end
/-- where the group grp of the record rq stands: behind P (the records ahead of it) and M (its groups ahead of this one) -/
def ds_hit (P M : List ds_B) (b : ds_B) (rq grp : Nat) : Prop := ds_rc P = rq ∧ ((M = [] ∧ grp = 0 ∧ b.1 ≠ 2) ∨ (∃ b0 : ds_B, M = [b0] ∧ grp = 1 ∧ b0.1 ≠ 2 ∧ b.1 = 2))
section
variable {post : St1 → Prop} {f1 f2 f3 f4 f5 f6 f7 f8 f9 f10 f11 f12 f13 : Int32} {a1 a2 a3 a4 a5 a6 a7 a8 : Nat → Int32}
theorem ds_ft {rq grp : Nat} {J P M S : List ds_B} {b : ds_B} (hT : ds_T J f5 f6 a3 a4 a5) (e : J = P ++ (M ++ b :: S)) (hh : ds_hit P M b rq grp)
    (H : post (f1, f2, f3, f4, f5, f6, f7, f8, f9, f10, f11, nI (P ++ M).length, nI (ds_tl (P ++ M)).length, a1, a2, a3, a4, a5, a6, a7, a8)) : wpX_findTag post (f1, f2, f3, f4, f5, f6, f7, f8, f9, f10, f11, f12, f13, a1, a2, a3, a4, a5, a6, a7, a8) (nI rq) (nI grp) := by
  obtain ⟨hrc, hh⟩ := hh
  have hwf := hT.1.1
  have hP := ds_rc_le P
  have hl : J.length = P.length + (M.length + (S.length + 1)) := by rw [e, List.length_append, List.length_append, List.length_cons]
  have h5 : f5 = nI J.length := by rw [hT.2.1, ds_ta_len]
  refine ⟨2 + P.length, ?_⟩
  have r := ds_ft_run (post := post) (f12 := 0) (f1 := f1) (f2 := f2) (f3 := f3) (f4 := f4) (f7 := f7) (f8 := f8) (f9 := f9) (f10 := f10) (f11 := f11) (a1 := a1) (a2 := a2) (a6 := a6) (a7 := a7) (a8 := a8) (n := 2) (grp := grp) (rq := rq) hT (by omega) (by rcases hh with q | ⟨_, q⟩ <;> omega) P [] 0 e (by rw [ds_rc]; omega) (by omega) ?_
  · rw [← ds_m0]
    exact r
  · intro g' hg'
    rw [List.nil_append]
    rcases hh with ⟨hM, hg, hb⟩ | ⟨b0, hM, hg, hb0, hb⟩
    · subst hM hg
      obtain ⟨k1, k2, k3⟩ := ds_T_at hT (P := P) (b := b) (S := S) e
      rw [List.append_nil] at H
      have e0 : ds_ag b = 0 := by unfold ds_ag; rw [if_neg hb]
      exact ds_ft_1 (n := 1) (c' := ds_rc P + 1) (g' := 0) (E := J.length) (by omega) (by omega) h5 k1 k2 (by have := ds_ag_lt b; omega) (ds_tdp_lt b) (by omega) (by omega) (by omega) (by omega) (by rw [e0]; rfl) (by rw [e0]; rfl) rfl (fun _ _ => H) (fun q => absurd ⟨by omega, rfl⟩ q)
    · subst hM hg
      have nb : ds_nw b0 = 1 := by unfold ds_nw; rw [if_neg hb0]
      refine ds_ft_b (n := 1) hT (P := P) (b := b0) (S := b :: S) e (by omega) (by omega) (by omega) (fun q => ?_) ?_
      · rw [if_neg hb0] at q
        omega
      · rw [if_neg hb0]
        obtain ⟨k1, k2, k3⟩ := ds_T_at hT (P := P ++ [b0]) (b := b) (S := S) (by rw [e, List.append_assoc])
        have e0 : ds_ag b = 1 := by unfold ds_ag; rw [if_pos hb]
        have ec : ds_rc (P ++ [b0]) = rq + 1 := by rw [ds_rc_app, ds_rc_1]; omega
        have el : (P ++ [b0]).length = P.length + 1 := by rw [List.length_append]; rfl
        have hl2 : ([b0] : List ds_B).length = 1 := rfl
        exact ds_ft_1 (n := 0) (c' := rq + 1) (g' := 1) (E := J.length) (by omega) (by omega) h5 k1 k2 (by omega) (ds_tdp_lt b) (by omega) (by omega) (by omega) (by omega) (by rw [e0, ec]; rfl) (by rw [e0]; rfl) rfl (fun _ _ => H) (fun q => absurd ⟨by omega, rfl⟩ q)
theorem ds_fv {rq grp : Nat} {J P M S : List ds_B} {b : ds_B} (hV : ds_V J f7 f8 a6 a7 a8) (e : J = P ++ (M ++ b :: S)) (hh : ds_hit P M b rq grp)
    (H : post (f1, f2, f3, f4, f5, f6, f7, f8, f9, f10, f11, nI (ds_va (P ++ M)).length, nI (ds_vl (P ++ M)).length, a1, a2, a3, a4, a5, a6, a7, a8)) : wpX_findValue post (f1, f2, f3, f4, f5, f6, f7, f8, f9, f10, f11, f12, f13, a1, a2, a3, a4, a5, a6, a7, a8) (nI rq) (nI grp) := by
  obtain ⟨hrc, hh⟩ := hh
  have hwf := hV.1.1
  have hvl := ds_va_le hV.1.2
  have hP := ds_rc_le P
  have hl : J.length = P.length + (M.length + (S.length + 1)) := by rw [e, List.length_append, List.length_append, List.length_cons]
  have hva : (ds_va J).length = (ds_va P).length + ((ds_va M).length + ((ds_ea b).length + (ds_va S).length)) := by rw [e, ds_va_app, ds_va_app, ds_va, List.length_append, List.length_append, List.length_append]
  have hel : (ds_ea b).length = b.2.2.length - 1 + 1 := by simp [ds_ea]
  have h7 : f7 = nI (ds_va J).length := hV.2.1
  refine ⟨4 + (ds_va P).length, ?_⟩
  have r := ds_fv_run (post := post) (f12 := 0) (f1 := f1) (f2 := f2) (f3 := f3) (f4 := f4) (f5 := f5) (f6 := f6) (f9 := f9) (f10 := f10) (f11 := f11) (a1 := a1) (a2 := a2) (a3 := a3) (a4 := a4) (a5 := a5) (n := 4) (grp := grp) (rq := rq) hV (by omega) (by rcases hh with q | ⟨_, q⟩ <;> omega) P [] 0 e (by rw [ds_rc]; omega) (by omega) ?_
  · rw [← ds_m0]
    exact r
  · intro g' hg'
    rw [List.nil_append]
    rcases hh with ⟨hM, hg, hb⟩ | ⟨b0, hM, hg, hb0, hb⟩
    · subst hM hg
      obtain ⟨k1, k2, k3⟩ := ds_V_at hV (P := P) (b := b) (S := S) e
      rw [List.append_nil] at H
      have e0 : ds_ag b = 0 := by unfold ds_ag; rw [if_neg hb]
      exact ds_fv_1 (n := 3) (c' := ds_rc P + 1) (g' := 0) (E := (ds_va J).length) (by omega) (by omega) h7 k1 k2 (by have := ds_ag_lt b; omega) (ds_vdp_lt b) (by omega) (by omega) (by omega) (by omega) (by rw [e0]; rfl) (by rw [e0]; rfl) rfl (fun _ _ => H) (fun q => absurd ⟨by omega, rfl⟩ q)
    · subst hM hg
      have nb : ds_nw b0 = 1 := by unfold ds_nw; rw [if_neg hb0]
      have hbk : ds_bk b0 := hV.1.2 b0 (by rw [e]; simp)
      have hle : (ds_ea b0).length ≤ 2 := by
        have := hbk.2.2.1
        simp only [ds_ea, List.length_cons, List.length_replicate]
        omega
      have h4 : (4 : Nat) = (3 - (ds_ea b0).length) + 1 + (ds_ea b0).length := by omega
      rw [h4]
      refine ds_fv_b (n := (3 - (ds_ea b0).length) + 1) hV (P := P) (b := b0) (S := b :: S) e (by omega) (by omega) (by omega) (fun q => ?_) ?_
      · rw [if_neg hb0] at q
        omega
      · rw [if_neg hb0]
        obtain ⟨k1, k2, k3⟩ := ds_V_at hV (P := P ++ [b0]) (b := b) (S := S) (by rw [e, List.append_assoc])
        have e0 : ds_ag b = 1 := by unfold ds_ag; rw [if_pos hb]
        have ec : ds_rc (P ++ [b0]) = rq + 1 := by rw [ds_rc_app, ds_rc_1]; omega
        have el : (ds_va (P ++ [b0])).length = (ds_va P).length + (ds_va [b0]).length := by rw [ds_va_app, List.length_append]
        exact ds_fv_1 (c' := rq + 1) (g' := 1) (E := (ds_va J).length) (by omega) (by omega) h7 k1 k2 (by omega) (ds_vdp_lt b) (by omega) (by omega) (by omega) (by omega) (by rw [e0, ec]; rfl) (by rw [e0]; rfl) rfl (fun _ _ => H) (fun q => absurd ⟨by omega, rfl⟩ q)
end
end
section
/-! ===== records and their blocks; the methods that read one record ===== -/
/-- the blocks of a record that has begun: those of its tags -/
def ds_ob : ds_R → List ds_B
  | [] => []
  | [g] => [(1, g)]
  | g :: h :: _ => [(1, g), (2, h)]
/-- those of its values: a last group without values has no entry yet -/
def ds_ov : ds_R → List ds_B
  | [] => []
  | [g] => if g.2.length = 0 then [] else [(1, g)]
  | g :: h :: _ => if h.2.length = 0 then [(1, g)] else [(1, g), (2, h)]
/-- the blocks of an ended record -/
def ds_bl : ds_R → List ds_B
  | [] => [(0, 0, [])]
  | [g] => [(1, g)]
  | g :: h :: _ => [(1, g), (2, h)]
def ds_all : List ds_R → List ds_B
  | [] => []
  | R :: D => ds_bl R ++ ds_all D
def ds_gn (R : ds_R) (g : Nat) : Nat := (R.getD g (0, [])).2.length
def ds_gt (R : ds_R) (g : Nat) : Nat := (R.getD g (0, [])).1
def ds_gv (R : ds_R) (g v : Nat) : Nat := (R.getD g (0, [])).2.getD v 0
/-- what a record may be -/
def ds_rk (R : ds_R) : Prop := R.length ≤ 2 ∧ ∀ g, g ∈ R → g.1 < 4 ∧ g.2.length ≤ 2 ∧ ∀ v, v ∈ g.2 → v < 16
theorem ds_n12 : (1 : Nat) ≠ 2 := by decide
theorem ds_n10 : (1 : Nat) ≠ 0 := by decide
theorem ds_n20 : (2 : Nat) ≠ 0 := by decide
theorem ds_n02 : (0 : Nat) ≠ 2 := by decide
/-- not there: the value is 0 -/
theorem ds_gv_0 {R : ds_R} {g v : Nat} (h : ¬ (g < R.length ∧ v < ds_gn R g)) : ds_gv R g v = 0 := by
  by_cases q : g < R.length
  · have h2 : ds_gn R g ≤ v := by
      rcases Nat.lt_or_ge v (ds_gn R g) with z | z
      · exact absurd ⟨q, z⟩ h
      · exact z
    rw [ds_gv, List.getD_eq_getElem?_getD, List.getElem?_eq_none h2]
    rfl
  · have e : R.getD g (0, []) = (0, []) := by
      rw [List.getD_eq_getElem?_getD, List.getElem?_eq_none (by omega : R.length ≤ g)]
      rfl
    rw [ds_gv, e]
    simp
/-- the record R is the i-th one of both columns -/
def ds_see (Jt Jv : List ds_B) (R : ds_R) (i : Nat) : Prop := R.length ≤ 2 ∧ ∃ P St Sv : List ds_B, Jt = P ++ (ds_bl R ++ St) ∧ Jv = P ++ (ds_bl R ++ Sv) ∧ ds_rc P = i ∧ (∀ b S, St = b :: S → b.1 ≠ 2)
theorem ds_loc {Jt Jv : List ds_B} {R : ds_R} {i g : Nat} (hs : ds_see Jt Jv R i) (hg : g < R.length) : ∃ (P M S1 S2 : List ds_B) (b : ds_B), Jt = P ++ (M ++ b :: S1) ∧ Jv = P ++ (M ++ b :: S2) ∧ ds_hit P M b i g ∧ b.1 ≠ 0 ∧ b.2.1 = ds_gt R g ∧ b.2.2 = (R.getD g (0, [])).2 := by
  obtain ⟨hl, P, St, Sv, h1, h2, h3, h4⟩ := hs
  rcases R with _ | ⟨x, _ | ⟨y, _ | ⟨z, R⟩⟩⟩
  · exact absurd hg (by simp)
  · have : g = 0 := by
      simp at hg
      omega
    subst this
    exact ⟨P, [], St, Sv, (1, x), h1, h2, ⟨h3, Or.inl ⟨rfl, rfl, ds_n12⟩⟩, ds_n10, rfl, rfl⟩
  · rcases g with _ | _ | g
    · exact ⟨P, [], (2, y) :: St, (2, y) :: Sv, (1, x), h1, h2, ⟨h3, Or.inl ⟨rfl, rfl, ds_n12⟩⟩, ds_n10, rfl, rfl⟩
    · exact ⟨P, [(1, x)], St, Sv, (2, y), h1, h2, ⟨h3, Or.inr ⟨(1, x), rfl, rfl, ds_n12, rfl⟩⟩, ds_n20, rfl, rfl⟩
    · have hg' : g + 1 + 1 < 2 := hg
      omega
  · simp at hl
theorem ds_hit_lt {P M : List ds_B} {b : ds_B} {i g : Nat} (h : ds_hit P M b i g) : g < 2 := by
  rcases h.2 with ⟨_, q, _⟩ | ⟨_, _, q, _⟩ <;> omega
section
variable {f1 f2 f3 f4 f5 f6 f7 f8 f9 f10 f11 f12 f13 : Int32} {a1 a2 a3 a4 a5 a6 a7 a8 : Nat → Int32}
theorem ds_isEnded {post : Int32 → Prop} {nd i : Nat} (h3 : f3 = nI nd) (hi : i < nd) (hnd : nd < 900) (H : post 1) : wpX_isEnded post (f1, f2, f3, f4, f5, f6, f7, f8, f9, f10, f11, f12, f13, a1, a2, a3, a4, a5, a6, a7, a8) (nI i) := by
  subst h3
  exact br_f (nI_pos (by omega)) (br_f (nI_ge hi (by omega)) H)
theorem ds_g39_e {post : Int32 → St1 → Prop} {J Q S : List ds_B} {x : Int32} {n : Nat} (hT : ds_T J f5 f6 a3 a4 a5) (e : J = Q ++ S) (hS : ∀ b S', S = b :: S' → b.1 ≠ 2) (H : post x (f1, f2, f3, f4, f5, f6, f7, f8, f9, f10, f11, f12, f13, a1, a2, a3, a4, a5, a6, a7, a8)) : wX_groups_39 post f1 f2 f3 f4 f5 f6 f7 f8 f9 f10 f11 f12 f13 a1 a2 a3 a4 a5 a6 a7 a8 (n + 1) x (nI Q.length) := by
  have hwf := hT.1.1
  have h5 : f5 = nI J.length := by rw [hT.2.1, ds_ta_len]
  rcases S with _ | ⟨b, S'⟩
  · rw [List.append_nil] at e
    exact br_t (by rw [h5, e]; exact nI_le (Nat.le_refl _) (by rw [← e]; omega)) H
  · obtain ⟨k1, k2, k3⟩ := ds_T_at hT e
    have hl : J.length = Q.length + (S'.length + 1) := by rw [e, List.length_append, List.length_cons]
    have e0 : ds_ag b = 0 := by unfold ds_ag; rw [if_neg (hS b S' rfl)]
    refine br_f (by rw [h5]; exact nI_ge (by omega) (by omega)) ⟨pk_in Q.length 52 (by omega), br_t ?_ H⟩
    rw [nI_clamp (by omega), k1, e0]
    decide
theorem ds_groups {post : Int32 → St1 → Prop} {nd i : Nat} {Jt Jv : List ds_B} {R : ds_R} (hT : ds_T Jt f5 f6 a3 a4 a5) (hs : ds_see Jt Jv R i) (h3 : f3 = nI nd) (hi : i < nd) (hnd : nd < 900) (H : ∀ x y, post (nI R.length) (f1, f2, f3, f4, f5, f6, f7, f8, f9, f10, f11, x, y, a1, a2, a3, a4, a5, a6, a7, a8)) : wpX_groups post (f1, f2, f3, f4, f5, f6, f7, f8, f9, f10, f11, f12, f13, a1, a2, a3, a4, a5, a6, a7, a8) (nI i) := by
  obtain ⟨hl, P, St, Sv, h1, h2, hrc, h4⟩ := hs
  have hwf := hT.1.1
  have h5 : f5 = nI Jt.length := by rw [hT.2.1, ds_ta_len]
  unfold wpX_groups
  refine ds_isEnded h3 hi hnd (br_f (by decide) ?_)
  rcases R with _ | ⟨x, _ | ⟨y, _ | ⟨z, R⟩⟩⟩
  · obtain ⟨k1, k2, k3⟩ := ds_T_at hT (P := P) (b := (0, 0, [])) (S := St) h1
    have hl : Jt.length = P.length + (1 + St.length) := by rw [h1, List.length_append, List.length_append]; rfl
    refine ds_ft hT (P := P) (M := []) (b := (0, 0, [])) (S := St) (rq := i) (grp := 0) h1 ⟨hrc, Or.inl ⟨rfl, rfl, by decide⟩⟩ ?_
    rw [List.append_nil]
    refine ⟨pk_in P.length 52 (by omega), br_t ?_ (H _ _)⟩
    rw [nI_clamp (by omega), k2]
    rfl
  · obtain ⟨k1, k2, k3⟩ := ds_T_at hT (P := P) (b := (1, x)) (S := St) h1
    have hl : Jt.length = P.length + (1 + St.length) := by rw [h1, List.length_append, List.length_append]; rfl
    refine ds_ft hT (P := P) (M := []) (b := (1, x)) (S := St) (rq := i) (grp := 0) h1 ⟨hrc, Or.inl ⟨rfl, rfl, ds_n12⟩⟩ ?_
    rw [List.append_nil]
    refine ⟨pk_in P.length 52 (by omega), br_f ?_ (nm_r (nI_1 _) ⟨1, ?_⟩)⟩
    · rw [nI_clamp (by omega), k2]
      unfold ds_tdp
      rw [if_neg ds_n10]
      split <;> decide
    · have hq : P.length + 1 = (P ++ [((1, x) : ds_B)]).length := by rw [List.length_append]; rfl
      rw [hq]
      exact ds_g39_e hT (Q := P ++ [(1, x)]) (S := St) (by rw [h1, List.append_assoc]; rfl) h4 (H _ _)
  · obtain ⟨k1, k2, k3⟩ := ds_T_at hT (P := P) (b := (1, x)) (S := (2, y) :: St) h1
    obtain ⟨m1, m2, m3⟩ := ds_T_at hT (P := P ++ [(1, x)]) (b := (2, y)) (S := St) (by rw [h1, List.append_assoc]; rfl)
    have hl : Jt.length = P.length + (2 + St.length) := by rw [h1, List.length_append, List.length_append]; rfl
    refine ds_ft hT (P := P) (M := []) (b := (1, x)) (S := (2, y) :: St) (rq := i) (grp := 0) h1 ⟨hrc, Or.inl ⟨rfl, rfl, ds_n12⟩⟩ ?_
    rw [List.append_nil]
    have hq : (P ++ [((1, x) : ds_B)]).length = P.length + 1 := by rw [List.length_append]; rfl
    rw [hq] at m1
    refine ⟨pk_in P.length 52 (by omega), br_f ?_ (nm_r (nI_1 _) ⟨2, ?_⟩)⟩
    · rw [nI_clamp (by omega), k2]
      unfold ds_tdp
      rw [if_neg ds_n10]
      split <;> decide
    · refine br_f (by rw [h5]; exact nI_ge (by omega) (by omega)) ⟨pk_in (P.length + 1) 52 (by omega), br_f ?_ (nm_e (nm_r (nI_1 _) ?_))⟩
      · rw [nI_clamp (by omega), m1]
        show ¬ nI 1 ≤ 0
        decide
      · have hq2 : P.length + 1 + 1 = (P ++ [((1, x) : ds_B), (2, y)]).length := by rw [List.length_append]; rfl
        rw [hq2]
        exact ds_g39_e hT (Q := P ++ [(1, x), (2, y)]) (S := St) (by rw [h1, List.append_assoc]; rfl) h4 (H _ _)
  · simp at hl
theorem ds_isGroup {post : Int32 → St1 → Prop} {nd i g : Nat} {Jt Jv : List ds_B} {R : ds_R} (hT : ds_T Jt f5 f6 a3 a4 a5) (hs : ds_see Jt Jv R i) (h3 : f3 = nI nd) (hi : i < nd) (hnd : nd < 900) (hg : g < 900) (H : ∀ x y, post (if g < R.length then 1 else 0) (f1, f2, f3, f4, f5, f6, f7, f8, f9, f10, f11, x, y, a1, a2, a3, a4, a5, a6, a7, a8)) : wpX_isGroup post (f1, f2, f3, f4, f5, f6, f7, f8, f9, f10, f11, f12, f13, a1, a2, a3, a4, a5, a6, a7, a8) (nI i) (nI g) := by
  have hl := hs.1
  unfold wpX_isGroup
  refine ds_isEnded h3 hi hnd (br_f (by decide) (br_f (nI_pos (by omega)) ?_))
  refine ds_groups hT hs h3 hi hnd (fun x y => ?_)
  have h := H x y
  refine pk_le R.length g (fun z => ?_) (fun z => ?_)
  · rw [if_neg (by omega)] at h
    exact h
  · rw [if_pos z] at h
    exact h
theorem ds_v42_e {post : Int32 → St1 → Prop} {J Q S : List ds_B} {x : Int32} {n : Nat} (hV : ds_V J f7 f8 a6 a7 a8) (e : J = Q ++ S) (H : post x (f1, f2, f3, f4, f5, f6, f7, f8, f9, f10, f11, f12, f13, a1, a2, a3, a4, a5, a6, a7, a8)) : wX_values_42 post f1 f2 f3 f4 f5 f6 f7 f8 f9 f10 f11 f12 f13 a1 a2 a3 a4 a5 a6 a7 a8 (n + 1) x (nI (ds_va Q).length) := by
  have hwf := hV.1.1
  have hvl := ds_va_le hV.1.2
  have h7 : f7 = nI (ds_va J).length := hV.2.1
  rcases S with _ | ⟨b, S'⟩
  · rw [List.append_nil] at e
    exact br_t (by rw [h7, e]; exact nI_le (Nat.le_refl _) (by rw [← e]; omega)) H
  · obtain ⟨k1, k2, k3⟩ := ds_V_at hV e
    have hva : (ds_va J).length = (ds_va Q).length + ((b.2.2.length - 1 + 1) + (ds_va S').length) := by rw [e, ds_va_app, ds_va, List.length_append, List.length_append]; simp [ds_ea]
    have hag := ds_ag_lt b
    refine br_f (by rw [h7]; exact nI_ge (by omega) (by omega)) ⟨pk_in (ds_va Q).length 112 (by omega), br_f ?_ H⟩
    rw [nI_clamp (by omega), k1]
    exact fun q => absurd ((nI_eq (b := 2) (by omega) (by omega)).mp q) (by omega)
theorem ds_v42 {post : Int32 → St1 → Prop} {J Q S : List ds_B} {b : ds_B} (hV : ds_V J f7 f8 a6 a7 a8) (e : J = Q ++ b :: S) (hb : b.1 ≠ 0) (H : post (nI b.2.2.length) (f1, f2, f3, f4, f5, f6, f7, f8, f9, f10, f11, f12, f13, a1, a2, a3, a4, a5, a6, a7, a8)) :
    vp_in (nI (ds_va Q).length) 112 ∧ (((2 ≤ a7 (nI (ds_va Q).length).toNatClampNeg → (∀ x4 : Int32, x4 = nI (ds_va Q).length + 1 → (∃ fu : Nat, wX_values_42 post f1 f2 f3 f4 f5 f6 f7 f8 f9 f10 f11 f12 f13 a1 a2 a3 a4 a5 a6 a7 a8 fu 1 x4))) ∧ (¬ 2 ≤ a7 (nI (ds_va Q).length).toNatClampNeg → post 0 (f1, f2, f3, f4, f5, f6, f7, f8, f9, f10, f11, f12, f13, a1, a2, a3, a4, a5, a6, a7, a8)))) := by
  have hwf := hV.1.1
  have hvl := ds_va_le hV.1.2
  have h7 : f7 = nI (ds_va J).length := hV.2.1
  obtain ⟨k1, k2, k3⟩ := ds_V_at hV e
  have hbk : ds_bk b := ds_wf_mid (P := Q) (S := S) (by rw [← e]; exact hV.1)
  have hva : (ds_va J).length = (ds_va Q).length + ((b.2.2.length - 1 + 1) + (ds_va S).length) := by rw [e, ds_va_app, ds_va, List.length_append, List.length_append]; simp [ds_ea]
  have hq : (ds_va (Q ++ [b])).length = (ds_va Q).length + (b.2.2.length - 1 + 1) := by rw [ds_va_app, ds_va_1, List.length_append]; simp [ds_ea]
  refine ⟨pk_in (ds_va Q).length 112 (by omega), ?_⟩
  rw [nI_clamp (by omega), k2]
  have e' : J = (Q ++ [b]) ++ S := by rw [e, List.append_assoc]; rfl
  have hv := hbk.2.2.1
  have hz : ∀ vs, b.2.2 = vs → vs.length ≠ 0 → ds_vdp b = 2 := by
    intro vs q q2
    unfold ds_vdp
    rw [if_neg hb, q, if_neg q2]
  obtain ⟨kd, tg, vs⟩ := b
  dsimp only at hv hva hq hz H hb
  rcases vs with _ | ⟨v, _ | ⟨w, _ | ⟨x, vs⟩⟩⟩
  · refine br_f ?_ H
    unfold ds_vdp
    rw [if_neg hb]
    show ¬ (2 : Int32) ≤ nI 1
    decide
  · rw [hz _ rfl (by simp)]
    refine br_t (by decide) (nm_r (nI_1 _) ⟨1, ?_⟩)
    have h := ds_v42_e (n := 0) hV e' H
    rw [hq] at h
    exact h
  · rw [hz _ rfl (by simp)]
    obtain ⟨m1, m2, m3⟩ := ds_V_at2 hV e (v := v) (w := w) rfl
    have hl2 : [v, w].length = 2 := rfl
    refine br_t (by decide) (nm_r (nI_1 _) ⟨2, br_f (by rw [h7]; exact nI_ge (by omega) (by omega)) ⟨pk_in ((ds_va Q).length + 1) 112 (by omega), br_t ?_ (nm_e (nm_r (nI_1 _) ?_))⟩⟩)
    · rw [nI_clamp (by omega), m1]
      rfl
    · have h := ds_v42_e (n := 0) hV e' H
      rw [hq] at h
      exact h
  · exact absurd hv (by simp)
theorem ds_values {post : Int32 → St1 → Prop} {nd i g : Nat} {Jt Jv : List ds_B} {R : ds_R} (hT : ds_T Jt f5 f6 a3 a4 a5) (hV : ds_V Jv f7 f8 a6 a7 a8) (hs : ds_see Jt Jv R i) (h3 : f3 = nI nd) (hi : i < nd) (hnd : nd < 900) (hg : g < 900) (H : ∀ x y, post (if g < R.length then nI (ds_gn R g) else -1) (f1, f2, f3, f4, f5, f6, f7, f8, f9, f10, f11, x, y, a1, a2, a3, a4, a5, a6, a7, a8)) : wpX_values post (f1, f2, f3, f4, f5, f6, f7, f8, f9, f10, f11, f12, f13, a1, a2, a3, a4, a5, a6, a7, a8) (nI i) (nI g) := by
  unfold wpX_values
  refine ds_isGroup hT hs h3 hi hnd hg (fun x y => ?_)
  by_cases q : g < R.length
  · rw [if_pos q]
    refine br_f (by decide) ?_
    obtain ⟨P, M, S1, S2, b, e1, e2, hh, hb, ht, hvs⟩ := ds_loc hs q
    refine ds_fv hV e2 hh ?_
    refine ds_v42 hV (Q := P ++ M) (b := b) (S := S2) (by rw [e2, List.append_assoc]) hb ?_
    have h := H (nI (ds_va (P ++ M)).length) (nI (ds_vl (P ++ M)).length)
    rw [if_pos q, ds_gn, ← hvs] at h
    exact h
  · rw [if_neg q]
    refine br_t rfl ?_
    have h := H x y
    rw [if_neg q] at h
    exact h
theorem ds_valueAt {post : Int32 → St1 → Prop} {nd i g pl : Nat} {Jt Jv : List ds_B} {R : ds_R} (hT : ds_T Jt f5 f6 a3 a4 a5) (hV : ds_V Jv f7 f8 a6 a7 a8) (hs : ds_see Jt Jv R i) (h3 : f3 = nI nd) (hi : i < nd) (hnd : nd < 900) (hg : g < 900) (hp : pl < 900) (H : ∀ x y, post (nI (ds_gv R g pl)) (f1, f2, f3, f4, f5, f6, f7, f8, f9, f10, f11, x, y, a1, a2, a3, a4, a5, a6, a7, a8)) : wpX_valueAt post (f1, f2, f3, f4, f5, f6, f7, f8, f9, f10, f11, f12, f13, a1, a2, a3, a4, a5, a6, a7, a8) (nI i) (nI g) (nI pl) := by
  unfold wpX_valueAt
  refine ds_isGroup hT hs h3 hi hnd hg (fun x y => ?_)
  by_cases q : g < R.length
  · rw [if_pos q]
    refine br_f (by decide) (br_f (nI_pos (by omega)) ?_)
    refine ds_values hT hV hs h3 hi hnd hg (fun x y => ?_)
    rw [if_pos q]
    obtain ⟨P, M, S1, S2, b, e1, e2, hh, hb, ht, hvs⟩ := ds_loc hs q
    have hbk : ds_bk b := hV.1.2 b (by rw [e2]; simp)
    have hle : ds_gn R g ≤ 2 := by rw [ds_gn, ← hvs]; exact hbk.2.2.1
    have hwf := hV.1.1
    have hvl := ds_vl_le hV.1.2
    refine pk_lt pl (ds_gn R g) (fun z => ?_) (fun z => ?_)
    · refine ds_fv hV e2 hh ?_
      have e3 : Jv = (P ++ M) ++ b :: S2 := by rw [e2, List.append_assoc]
      have hlen : (ds_vl Jv).length = (ds_vl (P ++ M)).length + (b.2.2.length + (ds_vl S2).length) := by rw [e3, ds_vl_app, ds_vl, List.length_append, List.length_append]
      have hz : pl < b.2.2.length := by rw [hvs]; exact z
      have hcell : a8 ((ds_vl (P ++ M)).length + pl) = nI (ds_gv R g pl) := by
        apply hV.2.2.2.2.2.2
        rw [e3, ds_vl_app, ds_vl, List.getElem?_append_right (by omega), Nat.add_sub_cancel_left, List.getElem?_append_left hz, ds_gv, ← hvs, List.getD_eq_getElem?_getD, List.getElem?_eq_getElem hz]
        rfl
      have hadd : nI (ds_vl (P ++ M)).length + nI pl = nI ((ds_vl (P ++ M)).length + pl) := nI_add _ _
      refine ⟨pk_in ((ds_vl (P ++ M)).length + pl) 60 (by omega) hadd, ?_⟩
      rw [hadd, nI_clamp (by omega), hcell]
      exact H _ _
    · have h := H x y
      have e0 : ds_gv R g pl = 0 := ds_gv_0 (fun r => absurd r.2 (by omega))
      rw [e0] at h
      exact h
  · rw [if_neg q]
    refine br_t rfl ?_
    have h := H x y
    have e0 : ds_gv R g pl = 0 := ds_gv_0 (fun r => q r.1)
    rw [e0] at h
    exact h
theorem ds_label {post : Int32 → St1 → Prop} {nd i g : Nat} {Jt Jv : List ds_B} {R : ds_R} (hT : ds_T Jt f5 f6 a3 a4 a5) (hs : ds_see Jt Jv R i) (h3 : f3 = nI nd) (hi : i < nd) (hnd : nd < 900) (hg : g < R.length) (H : ∀ x y, post (nI (ds_gt R g)) (f1, f2, f3, f4, f5, f6, f7, f8, f9, f10, f11, x, y, a1, a2, a3, a4, a5, a6, a7, a8)) : wpX_label post (f1, f2, f3, f4, f5, f6, f7, f8, f9, f10, f11, f12, f13, a1, a2, a3, a4, a5, a6, a7, a8) (nI i) (nI g) := by
  have hl := hs.1
  unfold wpX_label
  refine ds_isEnded h3 hi hnd (br_f (by decide) (br_f (fun q => ?_) ?_))
  · have hp : ¬ nI g < 0 := nI_pos (by omega)
    rw [q] at hp
    exact hp (by decide)
  · refine ds_isGroup hT hs h3 hi hnd (by omega) (fun x y => ?_)
    rw [if_pos hg]
    refine br_f (by decide) ?_
    obtain ⟨P, M, S1, S2, b, e1, e2, hh, hb, ht, hvs⟩ := ds_loc hs hg
    refine ds_ft hT e1 hh ?_
    have e3 : Jt = (P ++ M) ++ b :: S1 := by rw [e1, List.append_assoc]
    obtain ⟨k1, k2, k3⟩ := ds_T_at hT e3
    have hlen : Jt.length = (P ++ M).length + (S1.length + 1) := by rw [e3, List.length_append, List.length_cons]
    have hwf := hT.1.1
    have htl := ds_tl_le (P ++ M)
    refine ⟨pk_in (P ++ M).length 52 (by omega), ?_⟩
    rw [nI_clamp (by omega), k2]
    have h := H (nI (P ++ M).length) (nI (ds_tl (P ++ M)).length)
    rw [← ht] at h
    by_cases z : b.2.1 = 0
    · have e0 : ds_tdp b = 1 := by unfold ds_tdp; rw [if_neg hb, if_pos z]
      rw [e0]
      rw [z] at h
      exact br_f (by decide) h
    · have e0 : ds_tdp b = 2 := by unfold ds_tdp; rw [if_neg hb, if_neg z]
      rw [e0]
      refine br_t rfl ⟨pk_in (ds_tl (P ++ M)).length 40 (by omega), ?_⟩
      rw [nI_clamp (by omega), k3 e0]
      exact h
end
end
section
/-! ===== sumByTag and recordsWith over the blocks ===== -/
/-- what a block adds to the sum of the tag t, c records begun ahead of it, nd ended -/
def ds_bs (t nd c : Nat) (b : ds_B) : Nat := if ds_tdp b = 2 ∧ b.2.1 = t ∧ c + ds_nw b ≤ nd then b.2.2.sum else 0
def ds_ss (t nd : Nat) : Nat → List ds_B → Nat
  | _, [] => 0
  | c, b :: M => ds_bs t nd c b + ds_ss t nd (c + ds_nw b) M
section
variable {post : Int32 → Prop} {f1 f2 f3 f4 f5 f6 f7 f8 f9 f10 f11 f12 f13 : Int32} {a1 a2 a3 a4 a5 a6 a7 a8 : Nat → Int32}
theorem ds_s126_0 {J : Int32 → Int32 → Int32 → Int32 → Int32 → Int32 → Int32 → Prop} {x1 x2 x3 x4 x5 x6 x7 : Int32} {e d : Nat} (he : e < 112) (hd : a7 e = nI d) (hd2 : d ≠ 2) (hdb : d < 3) (H : J x2 x3 x4 x5 x6 x7 (nI (e + 1))) : wX_sumByTag_126 post J x1 x2 x3 x4 x5 x6 x7 (nI e) f1 f2 f3 f4 f5 f6 f7 f8 f9 f10 f11 f12 f13 a1 a2 a3 a4 a5 a6 a7 a8 := by
  refine ⟨pk_in e 112 he, br_f ?_ (nm_r (nI_1 e) H)⟩
  rw [nI_clamp (by omega), hd]
  exact fun q => hd2 ((nI_eq (b := 2) (by omega) (by omega)).mp q)
theorem ds_s126_1 {J : Int32 → Int32 → Int32 → Int32 → Int32 → Int32 → Int32 → Prop} {x1 x3 x4 x6 : Int32} {e s v x w : Nat} (he : e < 112) (hd : a7 e = nI 2) (hv : v < 60) (hx : a8 v = nI x) (hw : w < 2) (H : J (nI (s + if w = 1 then x else 0)) x3 x4 (nI (v + 1)) x6 (nI w) (nI (e + 1))) : wX_sumByTag_126 post J x1 (nI s) x3 x4 (nI v) x6 (nI w) (nI e) f1 f2 f3 f4 f5 f6 f7 f8 f9 f10 f11 f12 f13 a1 a2 a3 a4 a5 a6 a7 a8 := by
  refine ⟨pk_in e 112 he, br_t (by rw [nI_clamp (by omega), hd]; rfl) (pk_eq w 0 (fun z => nm_r (ds_nz s) (nm_r (nI_1 v) (nm_r (nI_1 e) ?_))) (fun z => ⟨pk_in v 60 hv, nm_r ?_ (nm_r (nI_1 v) (nm_r (nI_1 e) H))⟩))⟩
  · rw [if_neg (by omega), Nat.add_zero] at H
    exact H
  · rw [nI_clamp (by omega), hx, nI_add, if_pos (by omega)]
/-- a block's first entry: which tag it has -/
theorem ds_s19_h {t nd k ts c e E a d g n c' ts' w' : Nat} {x2 x5 x7 : Int32} (h3 : f3 = nI nd) (h7 : f7 = nI E) (hE : e < E) (hE' : E ≤ 112) (ha : a6 e = nI a) (hab : a < 2) (hk : k < 52) (hd : a4 k = nI d) (hdb : d < 3) (hts : ts < 40) (hg : d = 2 → a5 ts = nI g) (hgb : g < 1000) (htb : t < 1000) (hcb : c < 1000) (hnb : nd < 1000)
    (hc : c' = if a = 0 then c + 1 else c) (hts' : ts' = if d = 2 then ts + 1 else ts) (hw : w' = if d = 2 ∧ g = t ∧ c' ≤ nd then 1 else 0)
    (H : wX_sumByTag_126 post (wX_sumByTag_19 post (nI t) f1 f2 f3 f4 f5 f6 f7 f8 f9 f10 f11 f12 f13 a1 a2 a3 a4 a5 a6 a7 a8 n) (nI t) x2 (nI k) (nI ts') x5 (ds_m c') (nI w') (nI e) f1 f2 f3 f4 f5 f6 f7 f8 f9 f10 f11 f12 f13 a1 a2 a3 a4 a5 a6 a7 a8) :
    wX_sumByTag_19 post (nI t) f1 f2 f3 f4 f5 f6 f7 f8 f9 f10 f11 f12 f13 a1 a2 a3 a4 a5 a6 a7 a8 (n + 1) x2 (ds_m k) (nI ts) x5 (ds_m c) x7 (nI e) := by
  have he : (nI e).toNatClampNeg = e := nI_clamp (by omega)
  have hk' : (nI k).toNatClampNeg = k := nI_clamp (by omega)
  have ht' : (nI ts).toNatClampNeg = ts := nI_clamp (by omega)
  have ha' : a6 (nI e).toNatClampNeg = nI a := by rw [he]; exact ha
  have hd' : a4 (nI k).toNatClampNeg = nI d := by rw [hk']; exact hd
  have i1 : vp_in (nI e) 112 := pk_in e 112 (by omega)
  have hcl : c' < 2000 := by rw [hc]; split <;> omega
  have k77 : ∀ z0 z1 : Int32, z1 + z0 = ds_m c' → wX_sumByTag_59 post (wX_sumByTag_19 post (nI t) f1 f2 f3 f4 f5 f6 f7 f8 f9 f10 f11 f12 f13 a1 a2 a3 a4 a5 a6 a7 a8 n) (nI t) x2 (nI k) (nI ts) x5 (nI e) z0 z1 f1 f2 f3 f4 f5 f6 f7 f8 f9 f10 f11 f12 f13 a1 a2 a3 a4 a5 a6 a7 a8 := by
    intro z0 z1 hz
    refine nm_r hz ⟨pk_in k 52 hk, pk_eq d 2 (fun z => ?_) (fun z => ?_) hd' rfl⟩
    · rw [if_pos z] at hts'
      have hg' : a5 (nI ts).toNatClampNeg = nI g := by rw [ht']; exact hg z
      have k109 : ∀ w, w = w' → wX_sumByTag_109 post (wX_sumByTag_19 post (nI t) f1 f2 f3 f4 f5 f6 f7 f8 f9 f10 f11 f12 f13 a1 a2 a3 a4 a5 a6 a7 a8 n) (nI t) x2 (nI k) (nI ts) x5 (ds_m c') (nI e) 1 (nI w) f1 f2 f3 f4 f5 f6 f7 f8 f9 f10 f11 f12 f13 a1 a2 a3 a4 a5 a6 a7 a8 := by
        intro w q
        rw [q]
        refine br_f (by decide) (nm_r (nI_1 ts) ?_)
        rw [← hts']
        exact H
      refine br_f (by decide) ⟨pk_in ts 40 hts, pk_eq g t (fun q => ek_if (by rw [h3]; exact ds_m_ge (by omega) (by omega)) (fun r : nd < c' => ?_) (fun r : ¬ nd < c' => ?_)) (fun q => ?_) hg' rfl⟩
      · exact k109 0 (by rw [hw, if_neg (by omega)])
      · exact k109 1 (by rw [hw, if_pos (by omega)])
      · exact k109 0 (by rw [hw, if_neg (fun r => q r.2.1)])
    · rw [if_neg z] at hts'
      rw [if_neg (fun r => z r.1)] at hw
      rw [hts', hw] at H
      exact br_t rfl (br_t rfl (nm_r (ds_nz ts) H))
  refine br_f (by rw [h7]; exact nI_ge hE (by omega)) ⟨i1, pk_le 2 a (fun z => absurd z (by omega)) (fun z => ?_) rfl ha'⟩
  refine nm_r ((ds_m1 k).trans (ds_mS k)) ⟨i1, pk_eq a 0 (fun q => ?_) (fun q => ?_) ha' rfl⟩
  · refine k77 1 (ds_m c) ?_
    rw [hc, if_pos q]
    exact ds_m1 c
  · refine k77 0 (ds_m c) ?_
    rw [hc, if_neg q]
    exact ds_mz c
theorem ds_s_b {t nd s w n : Nat} {Jt Jv P S S' : List ds_B} {b : ds_B} (hT : ds_T Jt f5 f6 a3 a4 a5) (hV : ds_V Jv f7 f8 a6 a7 a8) (e : Jv = P ++ b :: S) (e' : Jt = P ++ b :: S') (h3 : f3 = nI nd) (hnd : nd < 900) (ht : t < 900)
    (H : ∀ w', w' < 2 → wX_sumByTag_19 post (nI t) f1 f2 f3 f4 f5 f6 f7 f8 f9 f10 f11 f12 f13 a1 a2 a3 a4 a5 a6 a7 a8 n (nI (s + ds_bs t nd (ds_rc P) b)) (ds_m (P ++ [b]).length) (nI (ds_tl (P ++ [b])).length) (nI (ds_vl (P ++ [b])).length) (ds_m (ds_rc (P ++ [b]))) (nI w') (nI (ds_va (P ++ [b])).length)) :
    wX_sumByTag_19 post (nI t) f1 f2 f3 f4 f5 f6 f7 f8 f9 f10 f11 f12 f13 a1 a2 a3 a4 a5 a6 a7 a8 (n + (ds_ea b).length) (nI s) (ds_m P.length) (nI (ds_tl P).length) (nI (ds_vl P).length) (ds_m (ds_rc P)) (nI w) (nI (ds_va P).length) := by
  obtain ⟨k1, k2, k3⟩ := ds_V_at hV e
  obtain ⟨t1, t2, t3⟩ := ds_T_at hT e'
  have hbk : ds_bk b := ds_wf_mid (P := P) (S := S) (by rw [← e]; exact hV.1)
  have hwf := hV.1.1
  have hva2 := ds_va_le hV.1.2
  have hvl2 := ds_vl_le hV.1.2
  have hl : Jv.length = P.length + (S.length + 1) := by rw [e, List.length_append, List.length_cons]
  have hva : (ds_va Jv).length = (ds_va P).length + ((ds_ea b).length + (ds_va S).length) := by rw [e, ds_va_app, ds_va, List.length_append, List.length_append]
  have hvl : (ds_vl Jv).length = (ds_vl P).length + (b.2.2.length + (ds_vl S).length) := by rw [e, ds_vl_app, ds_vl, List.length_append, List.length_append]
  have hrc := ds_rc_le P
  have htl := ds_tl_le P
  have h7 : f7 = nI (ds_va Jv).length := hV.2.1
  have ec : ds_rc (P ++ [b]) = ds_rc P + ds_nw b := by rw [ds_rc_app, ds_rc_1]
  have el : (P ++ [b]).length = P.length + 1 := by rw [List.length_append]; rfl
  have ea : (ds_va (P ++ [b])).length = (ds_va P).length + (ds_ea b).length := by rw [ds_va_app, List.length_append, ds_va_1]
  have ev : (ds_vl (P ++ [b])).length = (ds_vl P).length + b.2.2.length := by rw [ds_vl_app, List.length_append, ds_vl_1]
  have et : (ds_tl (P ++ [b])).length = if ds_tdp b = 2 then (ds_tl P).length + 1 else (ds_tl P).length := by
    rw [ds_tl_app, List.length_append, ds_tl_1]
    unfold ds_tg
    split <;> rfl
  have hel : (ds_ea b).length = b.2.2.length - 1 + 1 := by simp [ds_ea]
  have e1 : ds_rc P + ds_nw b = if ds_ag b = 0 then ds_rc P + 1 else ds_rc P := by
    unfold ds_ag ds_nw
    by_cases q : b.1 = 2
    · simp [q]
    · simp [q]
  have hnw := ds_nw_le b
  have hag := ds_ag_lt b
  have htd := ds_tdp_lt b
  have hvd := ds_vdp_lt b
  have htg := hbk.2.1
  rw [ec, ea, ev, el, ds_mS] at H
  obtain ⟨W, hW⟩ : ∃ W, W = if ds_tdp b = 2 ∧ b.2.1 = t ∧ ds_rc P + ds_nw b ≤ nd then 1 else 0 := ⟨_, rfl⟩
  have hW2 : W < 2 := by rw [hW]; split <;> omega
  have hbs : ds_bs t nd (ds_rc P) b = if W = 1 then b.2.2.sum else 0 := by
    unfold ds_bs
    rw [hW]
    by_cases q : ds_tdp b = 2 ∧ b.2.1 = t ∧ ds_rc P + ds_nw b ≤ nd
    · rw [if_pos q, if_pos q, if_pos rfl]
    · rw [if_neg q, if_neg q, if_neg (by decide)]
  have h := H W hW2
  rw [hbs] at h
  have hv := hbk.2.2.1
  have h0 := hbk.2.2.2.2
  have key : ∀ m, wX_sumByTag_126 post (wX_sumByTag_19 post (nI t) f1 f2 f3 f4 f5 f6 f7 f8 f9 f10 f11 f12 f13 a1 a2 a3 a4 a5 a6 a7 a8 m) (nI t) (nI s) (nI P.length) (nI (ds_tl (P ++ [b])).length) (nI (ds_vl P).length) (ds_m (ds_rc P + ds_nw b)) (nI W) (nI (ds_va P).length) f1 f2 f3 f4 f5 f6 f7 f8 f9 f10 f11 f12 f13 a1 a2 a3 a4 a5 a6 a7 a8 → wX_sumByTag_19 post (nI t) f1 f2 f3 f4 f5 f6 f7 f8 f9 f10 f11 f12 f13 a1 a2 a3 a4 a5 a6 a7 a8 (m + 1) (nI s) (ds_m P.length) (nI (ds_tl P).length) (nI (ds_vl P).length) (ds_m (ds_rc P)) (nI w) (nI (ds_va P).length) :=
    fun m hm => ds_s19_h (g := b.2.1) (a := ds_ag b) (d := ds_tdp b) h3 h7 (by omega) (by omega) k1 hag (by omega) t2 htd (by omega) t3 (by omega) (by omega) (by omega) (by omega) e1 et hW hm
  clear H e1 et t1 t2 t3 hbs hW htg
  have hz : ∀ vs, b.2.2 = vs → vs.length ≠ 0 → ds_vdp b = 2 := by
    intro vs q q2
    unfold ds_vdp
    rw [if_neg (fun r => q2 (by rw [← q, h0 r]; rfl)), q, if_neg q2]
  have hz0 : b.2.2.length = 0 → ds_vdp b ≠ 2 := by
    intro q
    unfold ds_vdp
    rw [if_pos q]
    split <;> omega
  obtain ⟨kd, tg, vs⟩ := b
  dsimp only at hv h0 hel hz hz0 h k3 hvl ⊢
  rcases vs with _ | ⟨v, _ | ⟨x, _ | ⟨y, vs⟩⟩⟩
  · rw [hel] at h hva ⊢
    refine key n (ds_s126_0 (by omega) k2 (hz0 rfl) hvd ?_)
    have q : (s + if W = 1 then ([] : List Nat).sum else 0) = s := by split <;> rfl
    rw [q] at h
    exact h
  · rw [hel] at h hva ⊢
    have hl1 : [v].length = 1 := rfl
    refine key n (ds_s126_1 (by omega) (by rw [k2, hz _ rfl (by simp)]) (by omega) (k3 v [] rfl) hW2 ?_)
    have q : [v].sum = v := by simp
    rw [q] at h
    exact h
  · rw [hel] at h hva ⊢
    have hl1 : [v, x].length = 2 := rfl
    obtain ⟨m1, m2, m3⟩ := ds_V_at2 hV e (v := v) (w := x) rfl
    refine key (n + 1) (ds_s126_1 (by omega) (by rw [k2, hz _ rfl (by simp)]) (by omega) (k3 v [x] rfl) hW2 ?_)
    refine br_f (by rw [h7]; exact nI_ge (by omega) (by omega)) ⟨pk_in ((ds_va P).length + 1) 112 (by omega), br_t ?_ ?_⟩
    · rw [nI_clamp (by omega), m1]
      decide
    · refine ds_s126_1 (by omega) m2 (by omega) m3 hW2 ?_
      have q : (s + if W = 1 then [v, x].sum else 0) = (s + if W = 1 then v else 0) + if W = 1 then x else 0 := by
        split
        · simp [Nat.add_assoc]
        · rfl
      rw [q] at h
      exact h
  · exact absurd hv (by simp)
theorem ds_s_run {t nd n : Nat} {Jt Jv S S' : List ds_B} (hT : ds_T Jt f5 f6 a3 a4 a5) (hV : ds_V Jv f7 f8 a6 a7 a8) (h3 : f3 = nI nd) (hnd : nd < 900) (ht : t < 900) : ∀ (M P : List ds_B) (s w : Nat), Jv = P ++ (M ++ S) → Jt = P ++ (M ++ S') → w < 2 →
    (∀ w', w' < 2 → wX_sumByTag_19 post (nI t) f1 f2 f3 f4 f5 f6 f7 f8 f9 f10 f11 f12 f13 a1 a2 a3 a4 a5 a6 a7 a8 n (nI (s + ds_ss t nd (ds_rc P) M)) (ds_m (P ++ M).length) (nI (ds_tl (P ++ M)).length) (nI (ds_vl (P ++ M)).length) (ds_m (ds_rc (P ++ M))) (nI w') (nI (ds_va (P ++ M)).length)) →
    wX_sumByTag_19 post (nI t) f1 f2 f3 f4 f5 f6 f7 f8 f9 f10 f11 f12 f13 a1 a2 a3 a4 a5 a6 a7 a8 (n + (ds_va M).length) (nI s) (ds_m P.length) (nI (ds_tl P).length) (nI (ds_vl P).length) (ds_m (ds_rc P)) (nI w) (nI (ds_va P).length) := by
  intro M
  induction M with
  | nil =>
    intro P s w e e' hw H
    have h := H w hw
    rw [List.append_nil] at h
    exact h
  | cons b M ih =>
    intro P s w e e' hw H
    have hl : n + (ds_va (b :: M)).length = n + (ds_va M).length + (ds_ea b).length := by rw [ds_va, List.length_append]; omega
    rw [hl]
    refine ds_s_b (n := n + (ds_va M).length) hT hV (P := P) (b := b) (S := M ++ S) (S' := M ++ S') (by rw [e]; rfl) (by rw [e']; rfl) h3 hnd ht (fun w' hw' => ?_)
    refine ih (P ++ [b]) _ w' (by rw [e, List.append_assoc]; rfl) (by rw [e', List.append_assoc]; rfl) hw' (fun w2 hw2 => ?_)
    have h := H w2 hw2
    rw [ds_ss, ← Nat.add_assoc] at h
    rw [List.append_assoc, ds_rc_app P [b], ds_rc_1]
    exact h
theorem ds_sumByTag {t nd : Nat} {Jt Jv X : List ds_B} (hT : ds_T Jt f5 f6 a3 a4 a5) (hV : ds_V Jv f7 f8 a6 a7 a8) (eX : Jt = Jv ++ X) (h3 : f3 = nI nd) (hnd : nd < 900) (ht : t < 900) (H : post (nI (ds_ss t nd 0 Jv))) : wpX_sumByTag post (f1, f2, f3, f4, f5, f6, f7, f8, f9, f10, f11, f12, f13, a1, a2, a3, a4, a5, a6, a7, a8) (nI t) := by
  have hwf := hV.1.1
  have hva2 := ds_va_le hV.1.2
  have h7 : f7 = nI (ds_va Jv).length := hV.2.1
  refine ⟨1 + (ds_va Jv).length, ?_⟩
  have r := ds_s_run (post := post) (t := t) (n := 1) (f1 := f1) (f2 := f2) (f4 := f4) (f9 := f9) (f10 := f10) (f11 := f11) (f12 := f12) (f13 := f13) (a1 := a1) (a2 := a2) hT hV h3 hnd ht Jv [] 0 0 (S := []) (S' := X) (by simp) (by rw [eX]; rfl) (by omega) ?_
  · rw [← ds_m0]
    exact r
  · intro w' hw'
    rw [List.nil_append, Nat.zero_add]
    exact br_t (by rw [h7]; exact nI_le (Nat.le_refl _) (by omega)) H
end
/-- the records that hold a value in lo .. hi: (the last one that was counted, how many) -/
def ds_wv (lo hi nd c : Nat) : List Nat → Nat × Nat → Nat × Nat
  | [], s => s
  | v :: vs, s => ds_wv lo hi nd c vs (if lo ≤ v ∧ v ≤ hi ∧ c ≠ s.1 ∧ c ≤ nd then (c, s.2 + 1) else s)
def ds_ww (lo hi nd : Nat) : List ds_B → Nat → Nat × Nat → Nat × Nat
  | [], _, s => s
  | b :: M, c, s => ds_ww lo hi nd M (c + ds_nw b) (ds_wv lo hi nd (c + ds_nw b) b.2.2 s)
theorem ds_wv_1 (lo hi nd c : Nat) : ∀ (vs : List Nat) (s : Nat × Nat), (ds_wv lo hi nd c vs s).1 = s.1 ∨ (ds_wv lo hi nd c vs s).1 = c
  | [], s => Or.inl rfl
  | v :: vs, s => by
    rw [ds_wv]
    rcases ds_wv_1 lo hi nd c vs (if lo ≤ v ∧ v ≤ hi ∧ c ≠ s.1 ∧ c ≤ nd then (c, s.2 + 1) else s) with q | q
    · rw [q]
      split
      · exact Or.inr rfl
      · exact Or.inl rfl
    · exact Or.inr q
section
variable {post : Int32 → Prop} {f1 f2 f3 f4 f5 f6 f7 f8 f9 f10 f11 f12 f13 : Int32} {a1 a2 a3 a4 a5 a6 a7 a8 : Nat → Int32}
theorem ds_w40_0 {J : Int32 → Int32 → Int32 → Int32 → Int32 → Prop} {x1 x2 x3 x5 x6 z0 z1 y : Int32} {e d : Nat} (he : e < 112) (hz : z1 + z0 = y) (hd : a7 e = nI d) (hd2 : d ≠ 2) (hdb : d < 3) (H : J x3 y x5 x6 (nI (e + 1))) : wX_recordsWith_40 post J x1 x2 x3 x5 x6 (nI e) z0 z1 f1 f2 f3 f4 f5 f6 f7 f8 f9 f10 f11 f12 f13 a1 a2 a3 a4 a5 a6 a7 a8 := by
  refine nm_r hz ⟨pk_in e 112 he, br_f ?_ (nm_r (nI_1 e) H)⟩
  rw [nI_clamp (by omega), hd]
  exact fun q => hd2 ((nI_eq (b := 2) (by omega) (by omega)).mp q)
theorem ds_w40_1 {J : Int32 → Int32 → Int32 → Int32 → Int32 → Prop} {z0 z1 : Int32} {e lo hi nd c v x : Nat} {s : Nat × Nat} (he : e < 112) (h3 : f3 = nI nd) (hz : z1 + z0 = ds_m c) (hd : a7 e = nI 2) (hv : v < 60) (hx : a8 v = nI x) (hxb : x < 1000) (hlo : lo < 1000) (hhi : hi < 1000) (hc : c < 1000) (hs : s.1 < 1000) (hnd : nd < 1000)
    (H : J (nI (if lo ≤ x ∧ x ≤ hi ∧ c ≠ s.1 ∧ c ≤ nd then (c, s.2 + 1) else s).2) (ds_m c) (nI (v + 1)) (ds_m (if lo ≤ x ∧ x ≤ hi ∧ c ≠ s.1 ∧ c ≤ nd then (c, s.2 + 1) else s).1) (nI (e + 1))) : wX_recordsWith_40 post J (nI lo) (nI hi) (nI s.2) (nI v) (ds_m s.1) (nI e) z0 z1 f1 f2 f3 f4 f5 f6 f7 f8 f9 f10 f11 f12 f13 a1 a2 a3 a4 a5 a6 a7 a8 := by
  subst h3
  have hf : ¬ (lo ≤ x ∧ x ≤ hi ∧ c ≠ s.1 ∧ c ≤ nd) → J (nI s.2) (ds_m c) (nI (v + 1)) (ds_m s.1) (nI (e + 1)) := by
    intro q
    rw [if_neg q] at H
    exact H
  refine nm_r hz ⟨pk_in e 112 he, br_t (by rw [nI_clamp (by omega), hd]; rfl) ⟨pk_in v 60 hv, nm_r (e' := nI x) (by rw [nI_clamp (by omega), hx]) (nm_r (nI_1 v) (pk_lt x lo (fun q => nm_r (nI_1 e) (hf (fun r => absurd r.1 (by omega)))) (fun q1 => pk_lt hi x (fun q => nm_r (nI_1 e) (hf (fun r => absurd r.2.1 (by omega)))) (fun q2 => ek_if (ds_m_mm (by omega) (by omega)) (fun q => nm_r (nI_1 e) (hf (fun r => r.2.2.1 q))) (fun q3 => ek_if (ds_m_ge (by omega) (by omega)) (fun q => nm_r (nI_1 e) (hf (fun r => absurd r.2.2.2 (by omega)))) (fun q4 => nm_r (nI_1 s.2) (nm_r (nI_1 e) ?_)))))))⟩⟩
  rw [if_pos ⟨q1, q2, q3, by omega⟩] at H
  exact H
theorem ds_w14_h {x1 x2 x3 x5 x6 : Int32} {c e E a n c' : Nat} (h7 : f7 = nI E) (hE : e < E) (hE' : E ≤ 112) (ha : a6 e = nI a) (hab : a < 3) (hc : c' = if a = 0 then c + 1 else c)
    (H : ∀ z0 z1 : Int32, z1 + z0 = ds_m c' → wX_recordsWith_40 post (wX_recordsWith_14 post x1 x2 f1 f2 f3 f4 f5 f6 f7 f8 f9 f10 f11 f12 f13 a1 a2 a3 a4 a5 a6 a7 a8 n) x1 x2 x3 x5 x6 (nI e) z0 z1 f1 f2 f3 f4 f5 f6 f7 f8 f9 f10 f11 f12 f13 a1 a2 a3 a4 a5 a6 a7 a8) : wX_recordsWith_14 post x1 x2 f1 f2 f3 f4 f5 f6 f7 f8 f9 f10 f11 f12 f13 a1 a2 a3 a4 a5 a6 a7 a8 (n + 1) x3 (ds_m c) x5 x6 (nI e) := by
  have he : (nI e).toNatClampNeg = e := nI_clamp (by omega)
  have ha' : a6 (nI e).toNatClampNeg = nI a := by rw [he]; exact ha
  refine br_f (by rw [h7]; exact nI_ge hE (by omega)) ⟨pk_in e 112 (by omega), pk_eq a 0 (fun q => H 1 (ds_m c) ?_) (fun q => H 0 (ds_m c) ?_) ha' rfl⟩
  · rw [hc, if_pos q]
    exact ds_m1 c
  · rw [hc, if_neg q]
    exact ds_mz c
theorem ds_w_b {lo hi nd n : Nat} {s : Nat × Nat} {Jv P S : List ds_B} {b : ds_B} (hV : ds_V Jv f7 f8 a6 a7 a8) (e : Jv = P ++ b :: S) (h3 : f3 = nI nd) (hnd : nd < 900) (hlo : lo < 900) (hhi : hi < 900) (hs : s.1 < 900)
    (H : wX_recordsWith_14 post (nI lo) (nI hi) f1 f2 f3 f4 f5 f6 f7 f8 f9 f10 f11 f12 f13 a1 a2 a3 a4 a5 a6 a7 a8 n (nI (ds_wv lo hi nd (ds_rc P + ds_nw b) b.2.2 s).2) (ds_m (ds_rc (P ++ [b]))) (nI (ds_vl (P ++ [b])).length) (ds_m (ds_wv lo hi nd (ds_rc P + ds_nw b) b.2.2 s).1) (nI (ds_va (P ++ [b])).length)) :
    wX_recordsWith_14 post (nI lo) (nI hi) f1 f2 f3 f4 f5 f6 f7 f8 f9 f10 f11 f12 f13 a1 a2 a3 a4 a5 a6 a7 a8 (n + (ds_ea b).length) (nI s.2) (ds_m (ds_rc P)) (nI (ds_vl P).length) (ds_m s.1) (nI (ds_va P).length) := by
  obtain ⟨k1, k2, k3⟩ := ds_V_at hV e
  have hbk : ds_bk b := ds_wf_mid (P := P) (S := S) (by rw [← e]; exact hV.1)
  have hwf := hV.1.1
  have hva2 := ds_va_le hV.1.2
  have hvl2 := ds_vl_le hV.1.2
  have hl : Jv.length = P.length + (S.length + 1) := by rw [e, List.length_append, List.length_cons]
  have hva : (ds_va Jv).length = (ds_va P).length + ((ds_ea b).length + (ds_va S).length) := by rw [e, ds_va_app, ds_va, List.length_append, List.length_append]
  have hvl : (ds_vl Jv).length = (ds_vl P).length + (b.2.2.length + (ds_vl S).length) := by rw [e, ds_vl_app, ds_vl, List.length_append, List.length_append]
  have hrc := ds_rc_le P
  have h7 : f7 = nI (ds_va Jv).length := hV.2.1
  have ec : ds_rc (P ++ [b]) = ds_rc P + ds_nw b := by rw [ds_rc_app, ds_rc_1]
  have ea : (ds_va (P ++ [b])).length = (ds_va P).length + (ds_ea b).length := by rw [ds_va_app, List.length_append, ds_va_1]
  have ev : (ds_vl (P ++ [b])).length = (ds_vl P).length + b.2.2.length := by rw [ds_vl_app, List.length_append, ds_vl_1]
  have hel : (ds_ea b).length = b.2.2.length - 1 + 1 := by simp [ds_ea]
  have e1 : ds_rc P + ds_nw b = if ds_ag b = 0 then ds_rc P + 1 else ds_rc P := by
    unfold ds_ag ds_nw
    by_cases q : b.1 = 2
    · simp [q]
    · simp [q]
  have hnw := ds_nw_le b
  have hag := ds_ag_lt b
  have hvd := ds_vdp_lt b
  rw [ec, ea, ev] at H
  obtain ⟨c', hc'⟩ : ∃ c', c' = ds_rc P + ds_nw b := ⟨_, rfl⟩
  rw [← hc'] at H e1
  have hv := hbk.2.2.1
  have h16 := hbk.2.2.2.1
  have h0 := hbk.2.2.2.2
  have hz : ∀ vs, b.2.2 = vs → vs.length ≠ 0 → ds_vdp b = 2 := by
    intro vs q q2
    unfold ds_vdp
    rw [if_neg (fun r => q2 (by rw [← q, h0 r]; rfl)), q, if_neg q2]
  have hz0 : b.2.2.length = 0 → ds_vdp b ≠ 2 := by
    intro q
    unfold ds_vdp
    rw [if_pos q]
    split <;> omega
  obtain ⟨kd, tg, vs⟩ := b
  dsimp only at hv h0 hel hz hz0 H k3 hvl h16 ⊢
  rcases vs with _ | ⟨v, _ | ⟨x, _ | ⟨y, vs⟩⟩⟩
  · rw [hel] at H hva ⊢
    exact ds_w14_h h7 (by omega) (by omega) k1 (by omega) e1 (fun z0 z1 hzz => ds_w40_0 (by omega) hzz k2 (hz0 rfl) hvd H)
  · rw [hel] at H hva ⊢
    have hl1 : [v].length = 1 := rfl
    have b1 : v < 16 := h16 v (by simp)
    exact ds_w14_h h7 (by omega) (by omega) k1 (by omega) e1 (fun z0 z1 hzz => ds_w40_1 (by omega) h3 hzz (by rw [k2, hz _ rfl (by simp)]) (by omega) (k3 v [] rfl) (by omega) (by omega) (by omega) (by omega) (by omega) (by omega) H)
  · rw [hel] at H hva ⊢
    have hl1 : [v, x].length = 2 := rfl
    have b1 : v < 16 := h16 v (by simp)
    have b2 : x < 16 := h16 x (by simp)
    obtain ⟨m1, m2, m3⟩ := ds_V_at2 hV e (v := v) (w := x) rfl
    refine ds_w14_h (n := n + 1) h7 (by omega) (by omega) k1 (by omega) e1 (fun z0 z1 hzz => ds_w40_1 (by omega) h3 hzz (by rw [k2, hz _ rfl (by simp)]) (by omega) (k3 v [x] rfl) (by omega) (by omega) (by omega) (by omega) (by omega) (by omega) ?_)
    refine ds_w14_h (c' := c') h7 (by omega) (by omega) m1 (by omega) rfl (fun z0 z1 hzz => ds_w40_1 (by omega) h3 hzz m2 (by omega) m3 (by omega) (by omega) (by omega) (by omega) ?_ (by omega) H)
    split <;> (try dsimp only) <;> omega
  · exact absurd hv (by simp)
theorem ds_w_run {lo hi nd n : Nat} {Jv S : List ds_B} (hV : ds_V Jv f7 f8 a6 a7 a8) (h3 : f3 = nI nd) (hnd : nd < 900) (hlo : lo < 900) (hhi : hi < 900) : ∀ (M P : List ds_B) (s : Nat × Nat), Jv = P ++ (M ++ S) → s.1 < 900 →
    wX_recordsWith_14 post (nI lo) (nI hi) f1 f2 f3 f4 f5 f6 f7 f8 f9 f10 f11 f12 f13 a1 a2 a3 a4 a5 a6 a7 a8 n (nI (ds_ww lo hi nd M (ds_rc P) s).2) (ds_m (ds_rc (P ++ M))) (nI (ds_vl (P ++ M)).length) (ds_m (ds_ww lo hi nd M (ds_rc P) s).1) (nI (ds_va (P ++ M)).length) →
    wX_recordsWith_14 post (nI lo) (nI hi) f1 f2 f3 f4 f5 f6 f7 f8 f9 f10 f11 f12 f13 a1 a2 a3 a4 a5 a6 a7 a8 (n + (ds_va M).length) (nI s.2) (ds_m (ds_rc P)) (nI (ds_vl P).length) (ds_m s.1) (nI (ds_va P).length) := by
  intro M
  induction M with
  | nil =>
    intro P s e hs H
    rw [List.append_nil] at H
    exact H
  | cons b M ih =>
    intro P s e hs H
    have hl : n + (ds_va (b :: M)).length = n + (ds_va M).length + (ds_ea b).length := by rw [ds_va, List.length_append]; omega
    rw [hl]
    have hwf := hV.1.1
    have hll : Jv.length = P.length + (M.length + S.length + 1) := by rw [e, List.length_append, List.length_append, List.length_cons]; omega
    have hrc := ds_rc_le P
    have hnw := ds_nw_le b
    refine ds_w_b (n := n + (ds_va M).length) hV (P := P) (b := b) (S := M ++ S) (by rw [e]; rfl) h3 hnd hlo hhi hs ?_
    refine ih (P ++ [b]) _ (by rw [e, List.append_assoc]; rfl) ?_ ?_
    · rcases ds_wv_1 lo hi nd (ds_rc P + ds_nw b) b.2.2 s with q | q <;> omega
    · rw [ds_ww] at H
      rw [List.append_assoc, ds_rc_app P [b], ds_rc_1]
      exact H
theorem ds_recordsWith {lo hi nd : Nat} {Jv : List ds_B} (hV : ds_V Jv f7 f8 a6 a7 a8) (h3 : f3 = nI nd) (hnd : nd < 900) (hlo : lo < 900) (hhi : hi < 900) (H : post (nI (ds_ww lo hi nd Jv 0 (0, 0)).2)) : wpX_recordsWith post (f1, f2, f3, f4, f5, f6, f7, f8, f9, f10, f11, f12, f13, a1, a2, a3, a4, a5, a6, a7, a8) (nI lo) (nI hi) := by
  have hwf := hV.1.1
  have hva2 := ds_va_le hV.1.2
  have h7 : f7 = nI (ds_va Jv).length := hV.2.1
  refine ⟨1 + (ds_va Jv).length, ?_⟩
  have r := ds_w_run (post := post) (lo := lo) (hi := hi) (n := 1) (f1 := f1) (f2 := f2) (f4 := f4) (f5 := f5) (f6 := f6) (f9 := f9) (f10 := f10) (f11 := f11) (f12 := f12) (f13 := f13) (a1 := a1) (a2 := a2) (a3 := a3) (a4 := a4) (a5 := a5) hV h3 hnd hlo hhi Jv [] (0, 0) (S := []) (by simp) (by decide) ?_
  · rw [← ds_m0]
    exact r
  · rw [List.nil_append]
    exact br_t (by rw [h7]; exact nI_le (Nat.le_refl _) (by omega)) H
end
end
section
/-! ===== pure laws: sums over ended records ===== -/
def ds_rs (t : Nat) : ds_R → Nat
  | [] => 0
  | g :: R => (if g.1 = t then g.2.sum else 0) + ds_rs t R
def ds_sum (t : Nat) : List ds_R → Nat
  | [] => 0
  | R :: D => ds_rs t R + ds_sum t D
def ds_any (lo hi : Nat) (vs : List Nat) : Bool := vs.any (fun v => decide (lo ≤ v ∧ v ≤ hi))
def ds_ri (lo hi : Nat) (R : ds_R) : Nat := if (R.any (fun g => ds_any lo hi g.2)) = true then 1 else 0
def ds_cnt (lo hi : Nat) : List ds_R → Nat
  | [] => 0
  | R :: D => ds_ri lo hi R + ds_cnt lo hi D
theorem ds_sum_snoc (t : Nat) (R : ds_R) : ∀ D : List ds_R, ds_sum t (D ++ [R]) = ds_sum t D + ds_rs t R
  | [] => by simp [ds_sum]
  | x :: D => by rw [List.cons_append, ds_sum, ds_sum, ds_sum_snoc t R D]; omega
theorem ds_cnt_snoc (lo hi : Nat) (R : ds_R) : ∀ D : List ds_R, ds_cnt lo hi (D ++ [R]) = ds_cnt lo hi D + ds_ri lo hi R
  | [] => by simp [ds_cnt]
  | x :: D => by rw [List.cons_append, ds_cnt, ds_cnt, ds_cnt_snoc lo hi R D]; omega
theorem ds_bs_1 {t nd c k : Nat} {g : Nat × List Nat} (ht : t ≠ 0) (hk : k ≠ 0) (hc : c + ds_nw (k, g) ≤ nd) : ds_bs t nd c (k, g) = if g.1 = t then g.2.sum else 0 := by
  unfold ds_bs ds_tdp
  dsimp only
  by_cases q : g.1 = t
  · have q0 : ¬ g.1 = 0 := by omega
    rw [if_neg hk, if_neg q0, if_pos ⟨rfl, q, hc⟩, if_pos q]
  · rw [if_neg (fun r => q r.2.1), if_neg q]
theorem ds_ss_rec {t nd c : Nat} {R : ds_R} {X : List ds_B} (ht : t ≠ 0) (hR : R.length ≤ 2) (hc : c + 1 ≤ nd) : ds_ss t nd c (ds_bl R ++ X) = ds_rs t R + ds_ss t nd (c + 1) X := by
  rcases R with _ | ⟨x, _ | ⟨y, _ | ⟨z, R⟩⟩⟩
  · show ds_ss t nd c ((0, 0, []) :: X) = _
    rw [ds_ss, ds_rs]
    have h0 : ds_bs t nd c (0, 0, []) = 0 := by
      unfold ds_bs
      split <;> rfl
    rw [h0]
    rfl
  · show ds_ss t nd c ((1, x) :: X) = _
    rw [ds_ss, ds_bs_1 ht (by decide) hc, ds_rs, ds_rs]
    rfl
  · show ds_ss t nd c ((1, x) :: (2, y) :: X) = _
    have n1 : ds_nw (1, x) = 1 := rfl
    have n2 : ds_nw (2, y) = 0 := rfl
    rw [ds_ss, ds_ss, ds_bs_1 ht (by decide) hc, ds_bs_1 ht (by decide) (by rw [n1, n2]; exact hc), ds_rs, ds_rs, ds_rs, n1, n2]
    simp only [Nat.add_zero, Nat.add_assoc]
  · simp at hR
theorem ds_ss_all {t nd : Nat} {X : List ds_B} (ht : t ≠ 0) : ∀ (D : List ds_R) (c : Nat), (∀ R, R ∈ D → R.length ≤ 2) → c + D.length ≤ nd → ds_ss t nd c (ds_all D ++ X) = ds_sum t D + ds_ss t nd (c + D.length) X
  | [], c, h, hc => by rw [ds_all, ds_sum]; simp
  | R :: D, c, h, hc => by
    rw [List.length_cons] at hc
    rw [ds_all, List.append_assoc, ds_ss_rec ht (h R List.mem_cons_self) (by omega), ds_ss_all ht D (c + 1) (fun R' h' => h R' (List.mem_cons_of_mem _ h')) (by omega), ds_sum, List.length_cons, show c + (D.length + 1) = c + 1 + D.length by omega]
    omega
theorem ds_bs_0 {t nd c : Nat} {b : ds_B} (h : ¬ c + ds_nw b ≤ nd) : ds_bs t nd c b = 0 := by
  unfold ds_bs
  rw [if_neg (fun r => h r.2.2)]
theorem ds_ov_1 (x : Nat × List Nat) : ds_ov [x] = if x.2.length = 0 then [] else [(1, x)] := rfl
theorem ds_ov_2 (x y : Nat × List Nat) (R : ds_R) : ds_ov (x :: y :: R) = if y.2.length = 0 then [(1, x)] else [(1, x), (2, y)] := rfl
theorem ds_ss_out {t nd : Nat} {R : ds_R} : ds_ss t nd nd (ds_ov R) = 0 := by
  rcases R with _ | ⟨x, _ | ⟨y, R⟩⟩
  · rfl
  · have n1 : ds_nw (1, x) = 1 := rfl
    rw [ds_ov_1]
    split
    · rfl
    · rw [ds_ss, ds_ss, ds_bs_0 (by rw [n1]; omega)]
  · have n1 : ds_nw (1, x) = 1 := rfl
    have n2 : ds_nw (2, y) = 0 := rfl
    rw [ds_ov_2]
    split
    · rw [ds_ss, ds_ss, ds_bs_0 (by rw [n1]; omega)]
    · rw [ds_ss, ds_ss, ds_ss, ds_bs_0 (by rw [n1]; omega), ds_bs_0 (by rw [n1, n2]; omega)]
theorem ds_ss_done {t : Nat} {D : List ds_R} {R : ds_R} (ht : t ≠ 0) (h : ∀ R, R ∈ D → R.length ≤ 2) : ds_ss t D.length 0 (ds_all D ++ ds_ov R) = ds_sum t D := by
  rw [ds_ss_all ht D 0 h (by omega), Nat.zero_add, ds_ss_out, Nat.add_zero]
theorem ds_wv_eq {lo hi nd c : Nat} : ∀ (vs : List Nat) (s : Nat × Nat), s.1 = c → ds_wv lo hi nd c vs s = s
  | [], s, h => rfl
  | v :: vs, s, h => by
    rw [ds_wv, if_neg (fun r => r.2.2.1 h.symm)]
    exact ds_wv_eq vs s h
theorem ds_wv_out {lo hi nd c : Nat} (hc : nd < c) : ∀ (vs : List Nat) (s : Nat × Nat), ds_wv lo hi nd c vs s = s
  | [], s => rfl
  | v :: vs, s => by
    rw [ds_wv, if_neg (fun r => absurd r.2.2.2 (by omega))]
    exact ds_wv_out hc vs s
theorem ds_wv_in {lo hi nd c : Nat} (hc : c ≤ nd) : ∀ (vs : List Nat) (s : Nat × Nat), s.1 ≠ c → ds_wv lo hi nd c vs s = if ds_any lo hi vs = true then (c, s.2 + 1) else s
  | [], s, h => rfl
  | v :: vs, s, h => by
    rw [ds_wv]
    by_cases q : lo ≤ v ∧ v ≤ hi
    · rw [if_pos ⟨q.1, q.2, fun r => h r.symm, hc⟩, ds_wv_eq vs (c, s.2 + 1) rfl, if_pos (by unfold ds_any; rw [List.any_cons, decide_eq_true q]; rfl)]
    · rw [if_neg (fun r => q ⟨r.1, r.2.1⟩), ds_wv_in hc vs s h]
      have e : ds_any lo hi (v :: vs) = ds_any lo hi vs := by
        unfold ds_any
        rw [List.any_cons, decide_eq_false q]
        rfl
      rw [e]
theorem ds_ww_rec {lo hi nd c : Nat} {R : ds_R} {X : List ds_B} {s : Nat × Nat} (hR : R.length ≤ 2) (hc : c + 1 ≤ nd) (hs : s.1 ≤ c) : ∃ la, la ≤ c + 1 ∧ ds_ww lo hi nd (ds_bl R ++ X) c s = ds_ww lo hi nd X (c + 1) (la, s.2 + ds_ri lo hi R) := by
  rcases R with _ | ⟨x, _ | ⟨y, _ | ⟨z, R⟩⟩⟩
  · exact ⟨s.1, by omega, rfl⟩
  · have e : ds_ww lo hi nd (ds_bl [x] ++ X) c s = ds_ww lo hi nd X (c + 1) (ds_wv lo hi nd (c + 1) x.2 s) := rfl
    have r : ds_ri lo hi [x] = if ds_any lo hi x.2 = true then 1 else 0 := by
      unfold ds_ri
      rw [List.any_cons, List.any_nil, Bool.or_false]
    rw [e, ds_wv_in hc x.2 s (by omega), r]
    by_cases q : ds_any lo hi x.2 = true
    · exact ⟨c + 1, by omega, by rw [if_pos q, if_pos q]⟩
    · exact ⟨s.1, by omega, by rw [if_neg q, if_neg q]; rfl⟩
  · have e : ds_ww lo hi nd (ds_bl [x, y] ++ X) c s = ds_ww lo hi nd X (c + 1) (ds_wv lo hi nd (c + 1) y.2 (ds_wv lo hi nd (c + 1) x.2 s)) := rfl
    have r : ds_ri lo hi [x, y] = if (ds_any lo hi x.2 || ds_any lo hi y.2) = true then 1 else 0 := by
      unfold ds_ri
      rw [List.any_cons, List.any_cons, List.any_nil, Bool.or_false]
    rw [e, ds_wv_in hc x.2 s (by omega), r]
    by_cases q : ds_any lo hi x.2 = true
    · refine ⟨c + 1, by omega, ?_⟩
      rw [if_pos q, ds_wv_eq y.2 (c + 1, s.2 + 1) rfl, q, Bool.true_or, if_pos rfl]
    · rw [if_neg q, ds_wv_in hc y.2 s (by omega)]
      have q' : ds_any lo hi x.2 = false := by
        revert q
        cases ds_any lo hi x.2 <;> simp
      rw [q', Bool.false_or]
      by_cases q2 : ds_any lo hi y.2 = true
      · exact ⟨c + 1, by omega, by rw [if_pos q2, if_pos q2]⟩
      · exact ⟨s.1, by omega, by rw [if_neg q2, if_neg q2]; rfl⟩
  · simp at hR
theorem ds_ww_all {lo hi nd : Nat} {X : List ds_B} : ∀ (D : List ds_R) (c : Nat) (s : Nat × Nat), (∀ R, R ∈ D → R.length ≤ 2) → c + D.length ≤ nd → s.1 ≤ c → ∃ la, ds_ww lo hi nd (ds_all D ++ X) c s = ds_ww lo hi nd X (c + D.length) (la, s.2 + ds_cnt lo hi D)
  | [], c, s, h, hc, hs => ⟨s.1, rfl⟩
  | R :: D, c, s, h, hc, hs => by
    rw [List.length_cons] at hc
    obtain ⟨la, h1, h2⟩ := ds_ww_rec (lo := lo) (hi := hi) (nd := nd) (c := c) (R := R) (X := ds_all D ++ X) (s := s) (h R List.mem_cons_self) (by omega) hs
    obtain ⟨la', h3⟩ := ds_ww_all (lo := lo) (hi := hi) (nd := nd) (X := X) D (c + 1) (la, s.2 + ds_ri lo hi R) (fun R' h' => h R' (List.mem_cons_of_mem _ h')) (by omega) h1
    refine ⟨la', ?_⟩
    rw [ds_all, List.append_assoc, h2, h3, ds_cnt, List.length_cons, show c + (D.length + 1) = c + 1 + D.length by omega]
    show ds_ww lo hi nd X (c + 1 + D.length) (la', s.2 + ds_ri lo hi R + ds_cnt lo hi D) = _
    rw [Nat.add_assoc s.2]
theorem ds_ww_out {lo hi nd : Nat} {R : ds_R} {s : Nat × Nat} : ds_ww lo hi nd (ds_ov R) nd s = s := by
  rcases R with _ | ⟨x, _ | ⟨y, R⟩⟩
  · rfl
  · rw [ds_ov_1]
    split
    · rfl
    · show ds_wv lo hi nd (nd + 1) x.2 s = s
      exact ds_wv_out (by omega) _ _
  · rw [ds_ov_2]
    split
    · show ds_wv lo hi nd (nd + 1) x.2 s = s
      exact ds_wv_out (by omega) _ _
    · show ds_wv lo hi nd (nd + 1) y.2 (ds_wv lo hi nd (nd + 1) x.2 s) = s
      rw [ds_wv_out (by omega), ds_wv_out (by omega)]
theorem ds_ww_done {lo hi : Nat} {D : List ds_R} {R : ds_R} (h : ∀ R, R ∈ D → R.length ≤ 2) : (ds_ww lo hi D.length (ds_all D ++ ds_ov R) 0 (0, 0)).2 = ds_cnt lo hi D := by
  obtain ⟨la, h1⟩ := ds_ww_all (lo := lo) (hi := hi) (nd := D.length) (X := ds_ov R) D 0 (0, 0) h (by omega) (by decide)
  rw [h1, Nat.zero_add, ds_ww_out]
  exact Nat.zero_add _
/-! ===== the columns of all records: where the i-th one stands ===== -/
theorem ds_all_app (D D' : List ds_R) : ds_all (D ++ D') = ds_all D ++ ds_all D' := by
  induction D with
  | nil => rfl
  | cons R D ih => rw [List.cons_append, ds_all, ds_all, ih, List.append_assoc]
theorem ds_rc_bl (R : ds_R) : ds_rc (ds_bl R) = 1 := by
  rcases R with _ | ⟨x, _ | ⟨y, R⟩⟩ <;> rfl
theorem ds_rc_all (D : List ds_R) : ds_rc (ds_all D) = D.length := by
  induction D with
  | nil => rfl
  | cons R D ih => rw [ds_all, ds_rc_app, ds_rc_bl, ih, List.length_cons]; omega
theorem ds_head (D : List ds_R) (O : ds_R) : ∀ b S, ds_all D ++ ds_ob O = b :: S → b.1 ≠ 2 := by
  intro b S h
  rcases D with _ | ⟨R, D⟩
  · rcases O with _ | ⟨x, _ | ⟨y, O⟩⟩
    · have h' : ([] : List ds_B) = b :: S := h
      cases h'
    · have h' : [((1, x) : ds_B)] = b :: S := h
      rw [← (List.cons.inj h').1]
      exact ds_n12
    · have h' : [((1, x) : ds_B), (2, y)] = b :: S := h
      rw [← (List.cons.inj h').1]
      exact ds_n12
  · rcases R with _ | ⟨x, _ | ⟨y, R⟩⟩
    · have h' : ((0, 0, []) : ds_B) :: (ds_all D ++ ds_ob O) = b :: S := h
      rw [← (List.cons.inj h').1]
      exact ds_n02
    · have h' : ((1, x) : ds_B) :: (ds_all D ++ ds_ob O) = b :: S := h
      rw [← (List.cons.inj h').1]
      exact ds_n12
    · have h' : ((1, x) : ds_B) :: (2, y) :: (ds_all D ++ ds_ob O) = b :: S := h
      rw [← (List.cons.inj h').1]
      exact ds_n12
theorem ds_see_of {D D1 D2 : List ds_R} {R O : ds_R} (h : D = D1 ++ R :: D2) (hR : R.length ≤ 2) : ds_see (ds_all D ++ ds_ob O) (ds_all D ++ ds_ov O) R D1.length := by
  refine ⟨hR, ds_all D1, ds_all D2 ++ ds_ob O, ds_all D2 ++ ds_ov O, ?_, ?_, ds_rc_all D1, ds_head D2 O⟩
  · rw [h, ds_all_app, ds_all, List.append_assoc, List.append_assoc]
  · rw [h, ds_all_app, ds_all, List.append_assoc, List.append_assoc]
theorem ds_ob_ov (O : ds_R) : ∃ X, ds_ob O = ds_ov O ++ X := by
  rcases O with _ | ⟨x, _ | ⟨y, O⟩⟩
  · exact ⟨[], rfl⟩
  · rw [ds_ov_1]
    split
    · exact ⟨[(1, x)], rfl⟩
    · exact ⟨[], rfl⟩
  · rw [ds_ov_2]
    split
    · exact ⟨[(2, y)], rfl⟩
    · exact ⟨[], rfl⟩
/-! ===== the law's own sums over one record ===== -/
def ds_th (R : ds_R) (j : Nat) : Prop := j / 2 < R.length ∧ j % 2 < ds_gn R (j / 2)
/-- what the place j adds to the law's sum -/
def ds_pt (t : Nat) (R : ds_R) (j : Nat) : Nat := if (j / 2 < R.length ∧ j % 2 < ds_gn R (j / 2)) ∧ ds_gt R (j / 2) = t then ds_gv R (j / 2) (j % 2) else 0
def ds_ps (t : Nat) (R : ds_R) : Nat → Nat
  | 0 => 0
  | j + 1 => ds_ps t R j + ds_pt t R j
def ds_pi (t : Nat) (R : ds_R) : Nat → Nat
  | 0 => 0
  | j + 1 => if ds_pi t R j = 1 ∨ ((j / 2 < R.length ∧ j % 2 < ds_gn R (j / 2)) ∧ t ≤ ds_gv R (j / 2) (j % 2) ∧ ds_gv R (j / 2) (j % 2) ≤ 2 * t + 2) then 1 else 0
theorem ds_ps_4 {t : Nat} {R : ds_R} (h : ds_rk R) : ds_ps t R 4 = ds_rs t R := by
  obtain ⟨hl, hg⟩ := h
  have e : ds_ps t R 4 = 0 + ds_pt t R 0 + ds_pt t R 1 + ds_pt t R 2 + ds_pt t R 3 := rfl
  rw [e]
  rcases R with _ | ⟨⟨tx, vx⟩, _ | ⟨⟨ty, vy⟩, _ | ⟨z, R⟩⟩⟩
  · rfl
  · have hx := (hg (tx, vx) (by simp)).2.1
    dsimp only at hx
    rcases vx with _ | ⟨v, _ | ⟨w, _ | ⟨u, vx⟩⟩⟩
    · simp [ds_pt, ds_gn, ds_gt, ds_gv, ds_rs]
    · simp [ds_pt, ds_gn, ds_gt, ds_gv, ds_rs]
    · by_cases q : tx = t <;> simp [ds_pt, ds_gn, ds_gt, ds_gv, ds_rs, q]
    · simp at hx
  · have hx := (hg (tx, vx) (by simp)).2.1
    have hy := (hg (ty, vy) (by simp)).2.1
    dsimp only at hx hy
    rcases vx with _ | ⟨v, _ | ⟨w, _ | ⟨u, vx⟩⟩⟩
    · rcases vy with _ | ⟨v', _ | ⟨w', _ | ⟨u', vy⟩⟩⟩
      · simp [ds_pt, ds_gn, ds_gt, ds_gv, ds_rs]
      · simp [ds_pt, ds_gn, ds_gt, ds_gv, ds_rs]
      · by_cases q : ty = t <;> simp [ds_pt, ds_gn, ds_gt, ds_gv, ds_rs, q]
      · simp at hy
    · rcases vy with _ | ⟨v', _ | ⟨w', _ | ⟨u', vy⟩⟩⟩
      · simp [ds_pt, ds_gn, ds_gt, ds_gv, ds_rs]
      · simp [ds_pt, ds_gn, ds_gt, ds_gv, ds_rs]
      · by_cases q : ty = t <;> simp [ds_pt, ds_gn, ds_gt, ds_gv, ds_rs, q, Nat.add_assoc]
      · simp at hy
    · rcases vy with _ | ⟨v', _ | ⟨w', _ | ⟨u', vy⟩⟩⟩
      · by_cases q : tx = t <;> simp [ds_pt, ds_gn, ds_gt, ds_gv, ds_rs, q]
      · by_cases q : tx = t <;> simp [ds_pt, ds_gn, ds_gt, ds_gv, ds_rs, q]
      · by_cases q : tx = t <;> by_cases q' : ty = t <;> simp [ds_pt, ds_gn, ds_gt, ds_gv, ds_rs, q, q', Nat.add_assoc]
      · simp at hy
    · simp at hx
  · simp at hl
theorem ds_pi_4 {t : Nat} {R : ds_R} (h : ds_rk R) : ds_pi t R 4 = ds_ri t (2 * t + 2) R := by
  obtain ⟨hl, hg⟩ := h
  rcases R with _ | ⟨⟨tx, vx⟩, _ | ⟨⟨ty, vy⟩, _ | ⟨z, R⟩⟩⟩
  · simp [ds_pi, ds_ri]
  · have hx := (hg (tx, vx) (by simp)).2.1
    dsimp only at hx
    rcases vx with _ | ⟨v, _ | ⟨w, _ | ⟨u, vx⟩⟩⟩
    · simp [ds_pi, ds_gn, ds_gv, ds_ri, ds_any] <;> (split <;> split <;> first | rfl | omega)
    · simp [ds_pi, ds_gn, ds_gv, ds_ri, ds_any] <;> (split <;> split <;> first | rfl | omega)
    · simp [ds_pi, ds_gn, ds_gv, ds_ri, ds_any] <;> (split <;> split <;> first | rfl | omega)
    · simp at hx
  · have hx := (hg (tx, vx) (by simp)).2.1
    have hy := (hg (ty, vy) (by simp)).2.1
    dsimp only at hx hy
    rcases vx with _ | ⟨v, _ | ⟨w, _ | ⟨u, vx⟩⟩⟩
    · rcases vy with _ | ⟨v', _ | ⟨w', _ | ⟨u', vy⟩⟩⟩
      · simp [ds_pi, ds_gn, ds_gv, ds_ri, ds_any] <;> (split <;> split <;> first | rfl | omega)
      · simp [ds_pi, ds_gn, ds_gv, ds_ri, ds_any] <;> (split <;> split <;> first | rfl | omega)
      · simp [ds_pi, ds_gn, ds_gv, ds_ri, ds_any] <;> (split <;> split <;> first | rfl | omega)
      · simp at hy
    · rcases vy with _ | ⟨v', _ | ⟨w', _ | ⟨u', vy⟩⟩⟩
      · simp [ds_pi, ds_gn, ds_gv, ds_ri, ds_any] <;> (split <;> split <;> first | rfl | omega)
      · simp [ds_pi, ds_gn, ds_gv, ds_ri, ds_any] <;> (split <;> split <;> first | rfl | omega)
      · simp [ds_pi, ds_gn, ds_gv, ds_ri, ds_any] <;> (split <;> split <;> first | rfl | omega)
      · simp at hy
    · rcases vy with _ | ⟨v', _ | ⟨w', _ | ⟨u', vy⟩⟩⟩
      · simp [ds_pi, ds_gn, ds_gv, ds_ri, ds_any] <;> (split <;> split <;> first | rfl | omega)
      · simp [ds_pi, ds_gn, ds_gv, ds_ri, ds_any] <;> (split <;> split <;> first | rfl | omega)
      · simp [ds_pi, ds_gn, ds_gv, ds_ri, ds_any] <;> (split <;> split <;> first | rfl | omega)
      · simp at hy
    · simp at hx
  · simp at hl
theorem ds_pi_le (t : Nat) (R : ds_R) : ∀ j, ds_pi t R j < 2
  | 0 => by rw [ds_pi]; decide
  | j + 1 => by rw [ds_pi]; split <;> omega
end
section
/-! ===== a record in a long ===== -/
def ds_pk (R : ds_R) : Nat := R.length + 4 * ds_gn R 0 + 16 * ds_gn R 1 + 64 * ds_gt R 0 + 256 * ds_gt R 1 + 1024 * ds_gv R 0 0 + 16384 * ds_gv R 0 1 + 262144 * ds_gv R 1 0 + 4194304 * ds_gv R 1 1
theorem ds_getD (R : ds_R) (g : Nat) : R.getD g (0, []) ∈ R ∨ R.getD g (0, []) = (0, []) := by
  rw [List.getD_eq_getElem?_getD]
  by_cases h : g < R.length
  · rw [List.getElem?_eq_getElem h]
    exact Or.inl (List.getElem_mem h)
  · rw [List.getElem?_eq_none (by omega)]
    exact Or.inr rfl
theorem ds_gn_le {R : ds_R} (h : ds_rk R) (g : Nat) : ds_gn R g ≤ 2 := by
  unfold ds_gn
  rcases ds_getD R g with q | q
  · exact (h.2 _ q).2.1
  · rw [q]
    exact Nat.zero_le _
theorem ds_gt_lt {R : ds_R} (h : ds_rk R) (g : Nat) : ds_gt R g < 4 := by
  unfold ds_gt
  rcases ds_getD R g with q | q
  · exact (h.2 _ q).1
  · rw [q]
    decide
theorem ds_gv_lt {R : ds_R} (h : ds_rk R) (g v : Nat) : ds_gv R g v < 16 := by
  unfold ds_gv
  rcases ds_getD R g with q | q
  · rw [List.getD_eq_getElem?_getD]
    by_cases hv : v < (R.getD g (0, [])).2.length
    · rw [List.getElem?_eq_getElem hv]
      exact (h.2 _ q).2.2 _ (List.getElem_mem hv)
    · rw [List.getElem?_eq_none (by omega)]
      decide
  · rw [q]
    simp
theorem ds_pk_lt {R : ds_R} (h : ds_rk R) : ds_pk R < 67108864 := by
  have h0 := h.1
  have h1 := ds_gn_le h 0
  have h2 := ds_gn_le h 1
  have h3 := ds_gt_lt h 0
  have h4 := ds_gt_lt h 1
  have h5 := ds_gv_lt h 0 0
  have h6 := ds_gv_lt h 0 1
  have h7 := ds_gv_lt h 1 0
  have h8 := ds_gv_lt h 1 1
  unfold ds_pk
  omega
theorem ds_pk_m {R : ds_R} (h : ds_rk R) : ds_pk R % 2 ^ 2 = R.length := by
  have h0 := h.1
  unfold ds_pk
  omega
theorem ds_pk_n {R : ds_R} (h : ds_rk R) {g : Nat} (hg : g < 2) : ds_pk R / 2 ^ (2 + 2 * g) % 2 ^ 2 = ds_gn R g := by
  have h0 := h.1
  have h1 := ds_gn_le h 0
  have h2 := ds_gn_le h 1
  unfold ds_pk
  rcases g with _ | _ | g
  · rw [show 2 ^ (2 + 2 * 0) = 4 from rfl]
    omega
  · rw [show 2 ^ (2 + 2 * (0 + 1)) = 16 from rfl, Nat.zero_add]
    omega
  · omega
theorem ds_pk_t {R : ds_R} (h : ds_rk R) {g : Nat} (hg : g < 2) : ds_pk R / 2 ^ (6 + 2 * g) % 2 ^ 2 = ds_gt R g := by
  have h0 := h.1
  have h1 := ds_gn_le h 0
  have h2 := ds_gn_le h 1
  have h3 := ds_gt_lt h 0
  have h4 := ds_gt_lt h 1
  unfold ds_pk
  rcases g with _ | _ | g
  · rw [show 2 ^ (6 + 2 * 0) = 64 from rfl]
    omega
  · rw [show 2 ^ (6 + 2 * (0 + 1)) = 256 from rfl, Nat.zero_add]
    omega
  · omega
theorem ds_pk_v {R : ds_R} (h : ds_rk R) {g v : Nat} (hg : g < 2) (hv : v < 2) : ds_pk R / 2 ^ (10 + 8 * g + 4 * v) % 2 ^ 4 = ds_gv R g v := by
  have h0 := h.1
  have h1 := ds_gn_le h 0
  have h2 := ds_gn_le h 1
  have h3 := ds_gt_lt h 0
  have h4 := ds_gt_lt h 1
  have h5 := ds_gv_lt h 0 0
  have h6 := ds_gv_lt h 0 1
  have h7 := ds_gv_lt h 1 0
  have h8 := ds_gv_lt h 1 1
  unfold ds_pk
  rcases g with _ | _ | g
  · rcases v with _ | _ | v
    · rw [show 2 ^ (10 + 8 * 0 + 4 * 0) = 1024 from rfl]
      omega
    · rw [show 2 ^ (10 + 8 * 0 + 4 * (0 + 1)) = 16384 from rfl, Nat.zero_add]
      omega
    · omega
  · rcases v with _ | _ | v
    · rw [show 2 ^ (10 + 8 * (0 + 1) + 4 * 0) = 262144 from rfl, Nat.zero_add]
      omega
    · rw [show 2 ^ (10 + 8 * (0 + 1) + 4 * (0 + 1)) = 4194304 from rfl, Nat.zero_add]
      omega
    · omega
  · omega
/-! shifts of longs -/
theorem ds_shr {a d : Nat} {D : Int64} (hD : (D.toBitVec.smod 64).toNat = d) (h : a < 2 ^ 62) : lN a >>> D = lN (a / 2 ^ d) := by
  have hd : a / 2 ^ d ≤ a := Nat.div_le_self _ _
  apply Int64.toInt_inj.mp
  have e : (lN a >>> D).toInt = (lN a).toInt >>> d := by
    rw [← hD]
    exact BitVec.toInt_sshiftRight ..
  rw [e, Int.shiftRight_eq_div_pow, pk_lT (by omega), pk_lT (by omega)]
  rfl
theorem ds_fld {a d k : Nat} {D : Int64} {m : Int32} (h : a < 67108864) (hD : (D.toBitVec.smod 64).toNat = d) (hm : m.toBitVec.toNat = 2 ^ k - 1) : (lN a >>> D).toInt32 &&& m = nI (a / 2 ^ d % 2 ^ k) := by
  have hd : a / 2 ^ d ≤ a := Nat.div_le_self _ _
  rw [ds_shr hD (by omega), lN_i, pk_andN (by omega) k hm]
theorem ds_Lgroups {post : Int32 → Prop} {R : ds_R} (h : ds_rk R) (H : post (nI R.length)) : wpL_groups post () (lN (ds_pk R)) := by
  have hp := ds_pk_lt h
  show post ((lN (ds_pk R)).toInt32 &&& 3)
  rw [lN_i, pk_andN (by omega) 2 (by decide), ds_pk_m h]
  exact H
theorem ds_Lvalues {post : Int32 → Prop} {R : ds_R} {g : Nat} (h : ds_rk R) (hg : g < 2) (H : post (nI (ds_gn R g))) : wpL_values post () (lN (ds_pk R)) (nI g) := by
  have hp := ds_pk_lt h
  have hD : ((((2 + 2 * nI g).toInt64 &&& 63) : Int64).toBitVec.smod 64).toNat = 2 + 2 * g := by
    rcases g with _ | _ | g
    · decide
    · decide
    · omega
  show post (((lN (ds_pk R) >>> ((2 + 2 * nI g).toInt64 &&& 63)).toInt32) &&& 3)
  rw [ds_fld (k := 2) hp hD (by decide), ds_pk_n h hg]
  exact H
theorem ds_Ltag {post : Int32 → Prop} {R : ds_R} {g : Nat} (h : ds_rk R) (hg : g < 2) (H : post (nI (ds_gt R g))) : wpL_tag post () (lN (ds_pk R)) (nI g) := by
  have hp := ds_pk_lt h
  have hD : ((((6 + 2 * nI g).toInt64 &&& 63) : Int64).toBitVec.smod 64).toNat = 6 + 2 * g := by
    rcases g with _ | _ | g
    · decide
    · decide
    · omega
  show post (((lN (ds_pk R) >>> ((6 + 2 * nI g).toInt64 &&& 63)).toInt32) &&& 3)
  rw [ds_fld (k := 2) hp hD (by decide), ds_pk_t h hg]
  exact H
theorem ds_Lvalue {post : Int32 → Prop} {R : ds_R} {g v : Nat} (h : ds_rk R) (hg : g < 2) (hv : v < 2) (H : post (nI (ds_gv R g v))) : wpL_value post () (lN (ds_pk R)) (nI g) (nI v) := by
  have hp := ds_pk_lt h
  have hD : (((((10 + 8 * nI g) + 4 * nI v).toInt64 &&& 63) : Int64).toBitVec.smod 64).toNat = 10 + 8 * g + 4 * v := by
    rcases g with _ | _ | g
    · rcases v with _ | _ | v
      · decide
      · decide
      · omega
    · rcases v with _ | _ | v
      · decide
      · decide
      · omega
    · omega
  show post (((lN (ds_pk R) >>> (((10 + 8 * nI g) + 4 * nI v).toInt64 &&& 63)).toInt32) &&& 15)
  rw [ds_fld (k := 4) hp hD (by decide), ds_pk_v h hg hv]
  exact H
/-! a record grows -/
theorem ds_or {a b k w : Nat} (h : a / 2 ^ k % 2 ^ w = 0) (hb : b < 2 ^ w) : a ||| (b * 2 ^ k) = a + b * 2 ^ k := by
  have hk : 0 < 2 ^ k := Nat.two_pow_pos k
  have ha : a = (a / 2 ^ (k + w)) * 2 ^ (k + w) + a % 2 ^ k := by
    have h1 := Nat.div_add_mod a (2 ^ (k + w))
    have h2 : a % 2 ^ (k + w) = a % 2 ^ k := by
      rw [Nat.pow_add, Nat.mod_mul, h, Nat.mul_zero, Nat.add_zero]
    rw [h2, Nat.mul_comm] at h1
    exact h1.symm
  have hlo : a % 2 ^ k < 2 ^ k := Nat.mod_lt _ hk
  obtain ⟨lo, elo⟩ : ∃ lo, lo = a % 2 ^ k := ⟨_, rfl⟩
  obtain ⟨hi, ehi⟩ : ∃ hi, hi = a / 2 ^ (k + w) := ⟨_, rfl⟩
  rw [← elo, ← ehi] at ha
  rw [← elo] at hlo
  have e1 : b * 2 ^ k + lo = b * 2 ^ k ||| lo := by
    have := Nat.shiftLeft_add_eq_or_of_lt hlo b
    rwa [Nat.shiftLeft_eq] at this
  have hw : b * 2 ^ k + lo < 2 ^ (k + w) := by
    have h1 : b * 2 ^ k + 2 ^ k ≤ 2 ^ (k + w) := by
      have : (b + 1) * 2 ^ k ≤ 2 ^ w * 2 ^ k := Nat.mul_le_mul_right _ hb
      rw [Nat.add_mul, Nat.one_mul] at this
      rw [Nat.pow_add, Nat.mul_comm (2 ^ k)]
      exact this
    omega
  have e2 : hi * 2 ^ (k + w) + (b * 2 ^ k + lo) = hi * 2 ^ (k + w) ||| (b * 2 ^ k + lo) := by
    have := Nat.shiftLeft_add_eq_or_of_lt hw hi
    rwa [Nat.shiftLeft_eq] at this
  have e3 : hi * 2 ^ (k + w) + lo = hi * 2 ^ (k + w) ||| lo := by
    have := Nat.shiftLeft_add_eq_or_of_lt (show lo < 2 ^ (k + w) by omega) hi
    rwa [Nat.shiftLeft_eq] at this
  have e4 : a + b * 2 ^ k = hi * 2 ^ (k + w) + (b * 2 ^ k + lo) := by omega
  rw [e4, e2, e1, ha, e3, Nat.or_assoc, Nat.or_comm lo]
theorem ds_lor {a b : Nat} (ha : a < 2 ^ 64) (hb : b < 2 ^ 64) : lN a ||| lN b = lN (a ||| b) := by
  apply Int64.toBitVec_inj.mp
  rw [Int64.toBitVec_or]
  show BitVec.ofNat 64 a ||| BitVec.ofNat 64 b = BitVec.ofNat 64 (a ||| b)
  apply BitVec.eq_of_toNat_eq
  rw [BitVec.toNat_or, BitVec.toNat_ofNat, BitVec.toNat_ofNat, BitVec.toNat_ofNat, Nat.mod_eq_of_lt ha, Nat.mod_eq_of_lt hb, Nat.mod_eq_of_lt (Nat.or_lt_two_pow ha hb)]
theorem ds_shl {n k : Nat} {D : Int64} (hD : D.toBitVec.smod 64 = BitVec.ofNat 64 k) (hk : k < 64) : lN n <<< D = lN (n * 2 ^ k) := by
  apply Int64.toBitVec_inj.mp
  rw [Int64.toBitVec_shiftLeft, hD]
  show BitVec.ofNat 64 n <<< BitVec.ofNat 64 k = BitVec.ofNat 64 (n * 2 ^ k)
  apply BitVec.eq_of_toNat_eq
  rw [BitVec.shiftLeft_eq', BitVec.toNat_shiftLeft, BitVec.toNat_ofNat, BitVec.toNat_ofNat, BitVec.toNat_ofNat, Nat.mod_eq_of_lt (show k < 2 ^ 64 by omega), Nat.shiftLeft_eq, Nat.mul_mod, Nat.mod_mod, ← Nat.mul_mod]
/-- x | v << k, the k-th bits of x free -/
theorem ds_put {a b k w : Nat} {D : Int64} (hD : D.toBitVec.smod 64 = BitVec.ofNat 64 k) (hk : k < 32) (hw : w ≤ 4) (ha : a < 2 ^ 32) (hb : b < 2 ^ w) (h : a / 2 ^ k % 2 ^ w = 0) : lN a ||| ((nI b).toInt64 <<< D) = lN (a + b * 2 ^ k) := by
  have h1 : 2 ^ w ≤ 2 ^ 4 := Nat.pow_le_pow_right (by decide) hw
  have h2 : 2 ^ k ≤ 2 ^ 31 := Nat.pow_le_pow_right (by decide) (by omega)
  have h3 : b * 2 ^ k ≤ 16 * 2 ^ 31 := Nat.mul_le_mul (by omega) h2
  rw [nI_l (by omega), ds_shl hD (by omega), ds_lor (by omega) (by omega), ds_or h hb]
theorem ds_now_g {R : ds_R} {t : Nat} (hR : ds_rk R) (hl : R.length < 2) (ht : t < 4) : (lN (ds_pk R) + 1) ||| ((nI t).toInt64 <<< ((6 + (2 * nI R.length)).toInt64 &&& 63)) = lN (ds_pk (R ++ [(t, [])])) := by
  have hp := ds_pk_lt hR
  have h1 := ds_gn_le hR 0
  have h2 := ds_gn_le hR 1
  have h3 := ds_gt_lt hR 0
  have h4 := ds_gt_lt hR 1
  have h5 := ds_gv_lt hR 0 0
  have h6 := ds_gv_lt hR 0 1
  rw [lN_1]
  rcases R with _ | ⟨x, _ | ⟨y, R⟩⟩
  · rw [ds_put (k := 6) (w := 2) (by decide) (by decide) (by decide) (by omega) (by omega) (by decide)]
    congr 1
    simp [ds_pk, ds_gn, ds_gt, ds_gv]
    omega
  · have e1 : ds_gn [x] 1 = 0 := rfl
    have e2 : ds_gt [x] 1 = 0 := rfl
    have e3 : ds_gv [x] 1 0 = 0 := rfl
    have e4 : ds_gv [x] 1 1 = 0 := rfl
    have e5 : [x].length = 1 := rfl
    have hpk : ds_pk [x] = 1 + 4 * ds_gn [x] 0 + 64 * ds_gt [x] 0 + 1024 * ds_gv [x] 0 0 + 16384 * ds_gv [x] 0 1 := by
      unfold ds_pk
      rw [e1, e2, e3, e4, e5]
      omega
    have hpk2 : ds_pk ([x] ++ [(t, [])]) = 2 + 4 * ds_gn [x] 0 + 64 * ds_gt [x] 0 + 256 * t + 1024 * ds_gv [x] 0 0 + 16384 * ds_gv [x] 0 1 := by
      simp [ds_pk, ds_gn, ds_gt, ds_gv]
    rw [show nI [x].length = nI 1 from rfl, ds_put (k := 8) (w := 2) (by decide) (by decide) (by decide) (by omega) (by omega) (by rw [hpk]; omega)]
    congr 1
    rw [hpk, hpk2]
    omega
  · simp at hl
    omega
/-- a value more in the last group -/
def ds_add : ds_R → Nat → ds_R
  | [], _ => []
  | [g], v => [(g.1, g.2 ++ [v])]
  | g :: h :: _, v => [g, (h.1, h.2 ++ [v])]
theorem ds_now_v {R : ds_R} {v m : Nat} (hR : ds_rk R) (hl : 0 < R.length) (hm : m = ds_gn R (R.length - 1)) (hm2 : m < 2) (hv : v < 16) : (lN (ds_pk R) + ((1 : Int64) <<< ((2 * nI R.length).toInt64 &&& 63))) ||| ((nI v).toInt64 <<< (((10 + (8 * (nI R.length - 1))) + (4 * nI m)).toInt64 &&& 63)) = lN (ds_pk (ds_add R v)) := by
  have hp := ds_pk_lt hR
  have hl2 := hR.1
  rcases R with _ | ⟨⟨tx, vx⟩, _ | ⟨⟨ty, vy⟩, _ | ⟨z, R⟩⟩⟩
  · simp at hl
  · have hs : (1 : Int64) <<< ((2 * nI 1).toInt64 &&& 63) = lN 4 := by decide
    rw [show nI [(tx, vx)].length = nI 1 from rfl, hs, lN_add]
    have h3 := ds_gt_lt hR 0
    have h5 := ds_gv_lt hR 0 0
    have e5 : ds_gt [(tx, vx)] 0 = tx := rfl
    rcases vx with _ | ⟨a, _ | ⟨b, vx⟩⟩
    · have e0 : m = 0 := hm
      subst e0
      have hpk : ds_pk [(tx, [])] = 1 + 64 * tx := by simp [ds_pk, ds_gn, ds_gt, ds_gv]
      have hpk2 : ds_pk (ds_add [(tx, [])] v) = 5 + 64 * tx + 1024 * v := by simp [ds_add, ds_pk, ds_gn, ds_gt, ds_gv]
      rw [ds_put (k := 10) (w := 4) (by decide) (by decide) (by decide) (by omega) (by omega) (by rw [hpk]; omega)]
      congr 1
      rw [hpk, hpk2]
      omega
    · have e0 : m = 1 := hm
      subst e0
      have e6 : ds_gv [(tx, [a])] 0 0 = a := rfl
      have hpk : ds_pk [(tx, [a])] = 5 + 64 * tx + 1024 * a := by simp [ds_pk, ds_gn, ds_gt, ds_gv]
      have hpk2 : ds_pk (ds_add [(tx, [a])] v) = 9 + 64 * tx + 1024 * a + 16384 * v := by simp [ds_add, ds_pk, ds_gn, ds_gt, ds_gv]
      rw [ds_put (k := 14) (w := 4) (by decide) (by decide) (by decide) (by omega) (by omega) (by rw [hpk]; omega)]
      congr 1
      rw [hpk, hpk2]
      omega
    · rw [hm] at hm2
      simp [ds_gn] at hm2
      omega
  · have hs : (1 : Int64) <<< ((2 * nI 2).toInt64 &&& 63) = lN 16 := by decide
    rw [show nI [(tx, vx), (ty, vy)].length = nI 2 from rfl, hs, lN_add]
    have g1 := ds_gn_le hR 0
    have h3 := ds_gt_lt hR 0
    have h4 := ds_gt_lt hR 1
    have h5 := ds_gv_lt hR 0 0
    have h6 := ds_gv_lt hR 0 1
    have h7 := ds_gv_lt hR 1 0
    have i1 : ds_gn [(tx, vx), (ty, vy)] 0 = vx.length := rfl
    have i2 : ds_gt [(tx, vx), (ty, vy)] 0 = tx := rfl
    have i3 : ds_gt [(tx, vx), (ty, vy)] 1 = ty := rfl
    have i4 : ds_gv [(tx, vx), (ty, vy)] 0 0 = vx.getD 0 0 := rfl
    have i5 : ds_gv [(tx, vx), (ty, vy)] 0 1 = vx.getD 1 0 := rfl
    have i6 : ds_gv [(tx, vx), (ty, vy)] 1 0 = vy.getD 0 0 := rfl
    rw [i1] at g1
    rw [i2] at h3
    rw [i3] at h4
    rw [i4] at h5
    rw [i5] at h6
    rw [i6] at h7
    rcases vy with _ | ⟨a, _ | ⟨b, vy⟩⟩
    · have e0 : m = 0 := hm
      subst e0
      have hpk : ds_pk [(tx, vx), (ty, [])] = 2 + 4 * vx.length + 64 * tx + 256 * ty + 1024 * vx.getD 0 0 + 16384 * vx.getD 1 0 := rfl
      have hpk2 : ds_pk (ds_add [(tx, vx), (ty, [])] v) = 2 + 4 * vx.length + 16 + 64 * tx + 256 * ty + 1024 * vx.getD 0 0 + 16384 * vx.getD 1 0 + 262144 * v := rfl
      rw [ds_put (k := 18) (w := 4) (by decide) (by decide) (by decide) (by omega) (by omega) (by rw [hpk]; omega)]
      congr 1
      rw [hpk, hpk2]
      omega
    · have e0 : m = 1 := hm
      subst e0
      have hpk : ds_pk [(tx, vx), (ty, [a])] = 2 + 4 * vx.length + 16 + 64 * tx + 256 * ty + 1024 * vx.getD 0 0 + 16384 * vx.getD 1 0 + 262144 * a := rfl
      have hpk2 : ds_pk (ds_add [(tx, vx), (ty, [a])] v) = 2 + 4 * vx.length + 32 + 64 * tx + 256 * ty + 1024 * vx.getD 0 0 + 16384 * vx.getD 1 0 + 262144 * a + 4194304 * v := rfl
      have h7' : a < 16 := h7
      rw [ds_put (k := 22) (w := 4) (by decide) (by decide) (by decide) (by omega) (by omega) (by rw [hpk]; omega)]
      congr 1
      rw [hpk, hpk2]
      omega
    · rw [hm] at hm2
      simp [ds_gn] at hm2
      omega
  · simp at hl2
end
section
/-! ===== agrees ===== -/
def ds_pick (i : Nat) (a b c e : Int64) : Int64 := if i = 0 then a else if i = 1 then b else if i = 2 then c else e
theorem ds_Lpick {post : Int64 → Prop} {i : Nat} {a b c e : Int64} (hi : i < 4) (H : post (ds_pick i a b c e)) : wpL_pick post () (nI i) a b c e := by
  unfold ds_pick at H
  refine pk_eq i 0 (fun z => ?_) (fun z => pk_eq i 1 (fun z1 => ?_) (fun z1 => pk_eq i 2 (fun z2 => ?_) (fun z2 => ?_)))
  · rw [if_pos z] at H
    exact H
  · rw [if_neg z, if_pos z1] at H
    exact H
  · rw [if_neg z, if_neg z1, if_pos z2] at H
    exact H
  · rw [if_neg z, if_neg z1, if_neg z2] at H
    exact H
theorem ds_2t (t : Nat) : (2 * nI t) + 2 = nI (2 * t + 2) := by
  show nI 2 * nI t + nI 2 = _
  rw [pk_mul, nI_add]
section
variable {post : Int32 → St1 → Prop} {J9 J67 : Int32 → Int32 → Int32 → Int32 → Int32 → Int32 → Int32 → Int32 → Int32 → Int32 → Int32 → Int32 → Int32 → Int32 → Int32 → Int32 → (Nat → Int32) → (Nat → Int32) → (Nat → Int32) → (Nat → Int32) → (Nat → Int32) → (Nat → Int32) → (Nat → Int32) → (Nat → Int32) → Prop} {x1 : Int32} {x2 x4 x6 x8 : Int64} {f1 f2 f3 f4 f5 f6 f7 f8 f9 f10 f11 f12 f13 : Int32} {a1 a2 a3 a4 a5 a6 a7 a8 : Nat → Int32}
theorem ds_222 {t s p j b v : Nat} {x12 x13 z0 z1 : Int32} {x14 : Int64} (hz : z1 + z0 = nI s) (ht : t < 900) (hp : p < 2) (hb : b < 2) (hv : v < 900)
    (H : J67 (nI s) (nI (if p = 1 ∨ (b = 1 ∧ t ≤ v ∧ v ≤ 2 * t + 2) then 1 else 0)) (nI (j + 1)) f1 f2 f3 f4 f5 f6 f7 f8 f9 f10 f11 f12 f13 a1 a2 a3 a4 a5 a6 a7 a8) :
    wL_agrees_222 post J9 J67 x1 x2 x4 x6 x8 (nI t) x12 x13 x14 (nI p) (nI j) (nI b) (nI v) z0 z1 f1 f2 f3 f4 f5 f6 f7 f8 f9 f10 f11 f12 f13 a1 a2 a3 a4 a5 a6 a7 a8 := by
  have h0 : ¬ (p = 1 ∨ (b = 1 ∧ t ≤ v ∧ v ≤ 2 * t + 2)) → J67 (nI s) 0 (nI (j + 1)) f1 f2 f3 f4 f5 f6 f7 f8 f9 f10 f11 f12 f13 a1 a2 a3 a4 a5 a6 a7 a8 := by
    intro q
    rw [if_neg q] at H
    exact H
  have h1 : (p = 1 ∨ (b = 1 ∧ t ≤ v ∧ v ≤ 2 * t + 2)) → J67 (nI s) 1 (nI (j + 1)) f1 f2 f3 f4 f5 f6 f7 f8 f9 f10 f11 f12 f13 a1 a2 a3 a4 a5 a6 a7 a8 := by
    intro q
    rw [if_pos q] at H
    exact H
  refine nm_r hz (pk_eq p 0 (fun q0 => pk_eq b 0 (fun q1 => nm_r (nI_1 j) (h0 (by omega))) (fun q1 => pk_lt v t (fun q2 => nm_r (nI_1 j) (h0 (by omega))) (fun q2 => pk_lt (2 * t + 2) v (fun q3 => nm_r (nI_1 j) (h0 (by omega))) (fun q3 => nm_r (nI_1 j) (h1 (by omega))) (ds_2t t) rfl))) (fun q0 => nm_r (nI_1 j) (h1 (by omega))))
theorem ds_197 {t s p j b v g : Nat} {R : ds_R} {x12 x13 : Int32} (hR : ds_rk R) (hg : g < 2) (ht : t < 900) (hp : p < 2) (hb : b < 2) (hv : v < 900)
    (H : J67 (nI (s + if b = 1 ∧ ds_gt R g = t then v else 0)) (nI (if p = 1 ∨ (b = 1 ∧ t ≤ v ∧ v ≤ 2 * t + 2) then 1 else 0)) (nI (j + 1)) f1 f2 f3 f4 f5 f6 f7 f8 f9 f10 f11 f12 f13 a1 a2 a3 a4 a5 a6 a7 a8) :
    wL_agrees_197 post J9 J67 x1 x2 x4 x6 x8 (nI t) (nI s) x12 x13 (lN (ds_pk R)) (nI p) (nI j) (nI g) (nI b) (nI v) f1 f2 f3 f4 f5 f6 f7 f8 f9 f10 f11 f12 f13 a1 a2 a3 a4 a5 a6 a7 a8 := by
  have hgt := ds_gt_lt hR g
  have h0 : ¬ (b = 1 ∧ ds_gt R g = t) → wL_agrees_221 post J9 J67 x1 x2 x4 x6 x8 (nI t) x12 x13 (lN (ds_pk R)) (nI p) (nI j) (nI b) (nI v) (nI s) f1 f2 f3 f4 f5 f6 f7 f8 f9 f10 f11 f12 f13 a1 a2 a3 a4 a5 a6 a7 a8 := by
    intro q
    rw [if_neg q, Nat.add_zero] at H
    exact ds_222 (ds_nz s) ht hp hb hv H
  refine pk_eq b 0 (fun q0 => h0 (by omega)) (fun q0 => ds_Ltag hR hg (pk_eq (ds_gt R g) t (fun q1 => ?_) (fun q1 => h0 (fun r => q1 r.2))))
  rw [if_pos ⟨by omega, q1⟩] at H
  exact ds_222 (nI_add s v) ht hp hb hv H
theorem ds_130 {t s p j b nd i : Nat} {R : ds_R} {Jt Jv : List ds_B} {x12 : Int32} (hT : ds_T Jt f5 f6 a3 a4 a5) (hV : ds_V Jv f7 f8 a6 a7 a8) (hs : ds_see Jt Jv R i) (h3 : f3 = nI nd) (hi : i < nd) (hnd : nd < 900) (hR : ds_rk R) (hj : j < 4)
    (H : ∀ x y, wL_agrees_197 post J9 J67 x1 x2 x4 x6 x8 (nI t) (nI s) x12 (nI i) (lN (ds_pk R)) (nI p) (nI j) (nI (j / 2)) (nI b) (nI (ds_gv R (j / 2) (j % 2))) f1 f2 f3 f4 f5 f6 f7 f8 f9 f10 f11 x y a1 a2 a3 a4 a5 a6 a7 a8) :
    wL_agrees_130 post J9 J67 x1 x2 x4 x6 x8 (nI t) (nI s) x12 (nI i) (lN (ds_pk R)) (nI p) (nI j) (nI (j / 2)) (nI b) (nI (ds_gv R (j / 2) (j % 2))) f1 f2 f3 f4 f5 f6 f7 f8 f9 f10 f11 f12 f13 a1 a2 a3 a4 a5 a6 a7 a8 := by
  have e1 : nI j &&& 1 = nI (j % 2) := pk_andN (by omega) 1 (by decide)
  have hl := hR.1
  have hgn := ds_gn_le hR (j / 2)
  unfold wL_agrees_130
  rw [e1]
  refine ds_valueAt hT hV hs h3 hi hnd (by omega) (by omega) (fun x y => br_t rfl ?_)
  refine ds_Lgroups hR (pk_le R.length (j / 2) (fun q => H x y) (fun q => ?_))
  refine ds_values hT hV hs h3 hi hnd (by omega) (fun x y => ?_)
  rw [if_pos q]
  refine ds_Lvalues hR (by omega) (br_t rfl ?_)
  exact ds_label hT hs h3 hi hnd q (fun x y => ds_Ltag hR (by omega) (br_t rfl (H x y)))
theorem ds_108 {t s p j b nd i : Nat} {R : ds_R} {Jt Jv : List ds_B} {x12 : Int32} (hT : ds_T Jt f5 f6 a3 a4 a5) (hV : ds_V Jv f7 f8 a6 a7 a8) (hs : ds_see Jt Jv R i) (h3 : f3 = nI nd) (hi : i < nd) (hnd : nd < 900) (hR : ds_rk R) (hj : j < 4) (ht : t < 900) (hp : p < 2) (hb : b = if j / 2 < R.length ∧ j % 2 < ds_gn R (j / 2) then 1 else 0)
    (H : ∀ x y, J67 (nI (s + ds_pt t R j)) (nI (if p = 1 ∨ ((j / 2 < R.length ∧ j % 2 < ds_gn R (j / 2)) ∧ t ≤ ds_gv R (j / 2) (j % 2) ∧ ds_gv R (j / 2) (j % 2) ≤ 2 * t + 2) then 1 else 0)) (nI (j + 1)) f1 f2 f3 f4 f5 f6 f7 f8 f9 f10 f11 x y a1 a2 a3 a4 a5 a6 a7 a8) :
    wL_agrees_108 post J9 J67 x1 x2 x4 x6 x8 (nI t) (nI s) x12 (nI i) (lN (ds_pk R)) (nI p) (nI j) (nI (j / 2)) (nI b) f1 f2 f3 f4 f5 f6 f7 f8 f9 f10 f11 f12 f13 a1 a2 a3 a4 a5 a6 a7 a8 := by
  have e1 : nI j &&& 1 = nI (j % 2) := pk_andN (by omega) 1 (by decide)
  have hgv := ds_gv_lt hR (j / 2) (j % 2)
  have h130 : wL_agrees_130 post J9 J67 x1 x2 x4 x6 x8 (nI t) (nI s) x12 (nI i) (lN (ds_pk R)) (nI p) (nI j) (nI (j / 2)) (nI b) (nI (ds_gv R (j / 2) (j % 2))) f1 f2 f3 f4 f5 f6 f7 f8 f9 f10 f11 f12 f13 a1 a2 a3 a4 a5 a6 a7 a8 := by
    refine ds_130 hT hV hs h3 hi hnd hR hj (fun x y => ds_197 hR (by omega) ht hp (by rw [hb]; split <;> omega) (by omega) ?_)
    have h := H x y
    unfold ds_pt at h
    by_cases q : j / 2 < R.length ∧ j % 2 < ds_gn R (j / 2)
    · rw [if_pos q] at hb
      subst hb
      simp only [q, true_and, and_self] at h ⊢
      exact h
    · rw [if_neg q] at hb
      subst hb
      simp only [q, false_and, or_false, if_false] at h
      simp only [show ¬ (0 : Nat) = 1 from by decide, false_and, or_false, if_false]
      exact h
  unfold wL_agrees_108
  rw [e1]
  refine pk_eq b 0 (fun q => ?_) (fun q => ds_Lvalue hR (by omega) (by omega) h130) rfl rfl (by rw [hb]; split <;> omega)
  have e0 : ds_gv R (j / 2) (j % 2) = 0 := ds_gv_0 (fun r => by rw [if_pos r] at hb; omega)
  rw [e0] at h130
  exact h130
theorem ds_67 {t s w nd i : Nat} {R : ds_R} {Jt Jv : List ds_B} (hT : ds_T Jt f5 f6 a3 a4 a5) (hV : ds_V Jv f7 f8 a6 a7 a8) (hs : ds_see Jt Jv R i) (h3 : f3 = nI nd) (hi : i < nd) (hnd : nd < 900) (hR : ds_rk R) (ht : t < 900)
    (H : ∀ x y, J9 (nI (s + ds_ps t R 4)) (nI (w + ds_pi t R 4)) (nI (i + 1)) f1 f2 f3 f4 f5 f6 f7 f8 f9 f10 f11 x y a1 a2 a3 a4 a5 a6 a7 a8) : ∀ (k j : Nat) (x y : Int32), j + k = 4 →
    wL_agrees_67 post J9 x1 x2 x4 x6 x8 (nI t) (nI w) (nI i) (lN (ds_pk R)) (k + 1) (nI (s + ds_ps t R j)) (nI (ds_pi t R j)) (nI j) f1 f2 f3 f4 f5 f6 f7 f8 f9 f10 f11 x y a1 a2 a3 a4 a5 a6 a7 a8 := by
  intro k
  induction k with
  | zero =>
    intro j x y hj
    have e : j = 4 := by omega
    subst e
    have h := H x y
    have hp := ds_pi_le t R 4
    refine pk_le 4 4 (fun _ => pk_eq (ds_pi t R 4) 0 (fun q => nm_r (ds_nz w) (nm_r (nI_1 i) ?_)) (fun q => nm_r (nI_1 w) (nm_r (nI_1 i) ?_))) (fun q => absurd q (by omega))
    · rw [q, Nat.add_zero] at h
      exact h
    · rw [show ds_pi t R 4 = 1 by omega] at h
      exact h
  | succ k ihk =>
    intro j x y hj
    have hp := ds_pi_le t R j
    have hl := hR.1
    have hgn := ds_gn_le hR (j / 2)
    have e1 : nI j &&& 1 = nI (j % 2) := pk_andN (by omega) 1 (by decide)
    have e2 : nI j >>> ((1 : Int32) &&& 31) = nI (j / 2) := pk_shrN (by omega) _ 1 (by decide)
    have ih : ∀ x y, wL_agrees_67 post J9 x1 x2 x4 x6 x8 (nI t) (nI w) (nI i) (lN (ds_pk R)) (k + 1) (nI (s + ds_ps t R j + ds_pt t R j)) (nI (if ds_pi t R j = 1 ∨ ((j / 2 < R.length ∧ j % 2 < ds_gn R (j / 2)) ∧ t ≤ ds_gv R (j / 2) (j % 2) ∧ ds_gv R (j / 2) (j % 2) ≤ 2 * t + 2) then 1 else 0)) (nI (j + 1)) f1 f2 f3 f4 f5 f6 f7 f8 f9 f10 f11 x y a1 a2 a3 a4 a5 a6 a7 a8 := by
      intro x y
      have h := ihk (j + 1) x y (by omega)
      rw [ds_ps, ds_pi, ← Nat.add_assoc] at h
      exact h
    have h108 : ∀ b, (b = if j / 2 < R.length ∧ j % 2 < ds_gn R (j / 2) then 1 else 0) → wL_agrees_108 post J9 (wL_agrees_67 post J9 x1 x2 x4 x6 x8 (nI t) (nI w) (nI i) (lN (ds_pk R)) (k + 1)) x1 x2 x4 x6 x8 (nI t) (nI (s + ds_ps t R j)) (nI w) (nI i) (lN (ds_pk R)) (nI (ds_pi t R j)) (nI j) (nI (j / 2)) (nI b) f1 f2 f3 f4 f5 f6 f7 f8 f9 f10 f11 x y a1 a2 a3 a4 a5 a6 a7 a8 :=
      fun b hb => ds_108 hT hV hs h3 hi hnd hR (by omega) ht hp hb ih
    refine pk_le 4 j (fun q => absurd q (by omega)) (fun _ => nm_r e2 ?_)
    refine ds_Lgroups hR (pk_le R.length (j / 2) (fun q => h108 0 (by rw [if_neg (by omega)])) (fun q => ?_))
    refine ds_Lvalues hR (by omega) ?_
    exact pk_le (ds_gn R (j / 2)) (j % 2) (fun q2 => h108 0 (by rw [if_neg (by omega)])) (fun q2 => h108 1 (by rw [if_pos ⟨q, q2⟩])) rfl e1
/-- both columns of the records D and of the one that has begun -/
def ds_C (D : List ds_R) (O : ds_R) (f5 f6 f7 f8 : Int32) (a3 a4 a5 a6 a7 a8 : Nat → Int32) : Prop := ds_T (ds_all D ++ ds_ob O) f5 f6 a3 a4 a5 ∧ ds_V (ds_all D ++ ds_ov O) f7 f8 a6 a7 a8 ∧ (∀ R, R ∈ D → ds_rk R) ∧ D.length ≤ 4
theorem ds_303 {t w : Nat} {D : List ds_R} {O : ds_R} (hC : ds_C D O f5 f6 f7 f8 a3 a4 a5 a6 a7 a8) (h3 : f3 = nI D.length) (ht : t < 400) (hw : w = ds_cnt t (2 * t + 2) D) (H : post 1 (f1, f2, f3, f4, f5, f6, f7, f8, f9, f10, f11, f12, f13, a1, a2, a3, a4, a5, a6, a7, a8)) : wL_agrees_303 post (nI t) (nI w) f1 f2 f3 f4 f5 f6 f7 f8 f9 f10 f11 f12 f13 a1 a2 a3 a4 a5 a6 a7 a8 := by
  obtain ⟨hT, hV, hD, hl⟩ := hC
  unfold wL_agrees_303
  rw [ds_2t]
  refine ds_recordsWith hV h3 (by omega) (by omega) (by omega) ?_
  rw [ds_ww_done (fun R hR => (hD R hR).1), hw]
  exact br_t rfl H
theorem ds_9 {t : Nat} {D : List ds_R} {O : ds_R} (hC : ds_C D O f5 f6 f7 f8 a3 a4 a5 a6 a7 a8) (h3 : f3 = nI D.length) (ht : t < 400) (hp : ∀ i R, D[i]? = some R → ds_pick i x2 x4 x6 x8 = lN (ds_pk R)) (H : ∀ x y, post 1 (f1, f2, f3, f4, f5, f6, f7, f8, f9, f10, f11, x, y, a1, a2, a3, a4, a5, a6, a7, a8)) : ∀ (D2 D1 : List ds_R) (x y : Int32), D = D1 ++ D2 →
    wL_agrees_9 post (nI D.length) x2 x4 x6 x8 (nI t) (D2.length + 1) (nI (ds_sum t D1)) (nI (ds_cnt t (2 * t + 2) D1)) (nI D1.length) f1 f2 f3 f4 f5 f6 f7 f8 f9 f10 f11 x y a1 a2 a3 a4 a5 a6 a7 a8 := by
  intro D2
  induction D2 with
  | nil =>
    intro D1 x y e
    rw [List.append_nil] at e
    subst e
    have hl := hC.2.2.2
    have hD := hC.2.2.1
    refine pk_le D.length D.length (fun _ => pk_eq t 0 (fun q => ds_303 hC h3 ht rfl (H x y)) (fun q => ?_)) (fun q => absurd q (by omega))
    obtain ⟨X, hX⟩ := ds_ob_ov O
    refine ds_sumByTag hC.1 hC.2.1 (X := X) (by rw [hX, List.append_assoc]) h3 (by omega) (by omega) ?_
    rw [ds_ss_done q (fun R hR => (hD R hR).1)]
    exact br_t rfl (ds_303 hC h3 ht rfl (H x y))
  | cons R D2 ih =>
    intro D1 x y e
    have hl := hC.2.2.2
    have hlen : D.length = D1.length + (D2.length + 1) := by rw [e, List.length_append, List.length_cons]
    have hR : ds_rk R := hC.2.2.1 R (by rw [e]; simp)
    have hs := ds_see_of (O := O) e hR.1
    have hR2 := hR.1
    refine pk_le D.length D1.length (fun q => absurd q (by omega)) (fun _ => ds_Lpick (by omega) ?_)
    rw [hp D1.length R (by rw [e]; simp)]
    refine ds_Lgroups hR ?_
    refine ds_groups hC.1 hs h3 (by omega) (by omega) (fun x y => br_t rfl ?_)
    refine ds_values hC.1 hC.2.1 hs h3 (by omega) (by omega) (by omega) (fun x y => ?_)
    rw [if_neg (by omega)]
    refine br_t rfl ⟨5, ?_⟩
    refine ds_67 (s := ds_sum t D1) hC.1 hC.2.1 hs h3 (by omega) (by omega) hR (by omega) (fun x y => ?_) 4 0 x y (by omega)
    have h := ih (D1 ++ [R]) x y (by rw [e, List.append_assoc]; rfl)
    rw [ds_ps_4 hR, ds_pi_4 hR, ← ds_sum_snoc, ← ds_cnt_snoc]
    rw [List.length_append] at h
    exact h
theorem ds_agrees {t : Nat} {D : List ds_R} {O : ds_R} (hC : ds_C D O f5 f6 f7 f8 a3 a4 a5 a6 a7 a8) (h3 : f3 = nI D.length) (ht : t < 400) (hp : ∀ i R, D[i]? = some R → ds_pick i x2 x4 x6 x8 = lN (ds_pk R)) (H : ∀ x y, post 1 (f1, f2, f3, f4, f5, f6, f7, f8, f9, f10, f11, x, y, a1, a2, a3, a4, a5, a6, a7, a8)) : wpL_agrees post (f1, f2, f3, f4, f5, f6, f7, f8, f9, f10, f11, f12, f13, a1, a2, a3, a4, a5, a6, a7, a8) (nI D.length) x2 x4 x6 x8 (nI t) :=
  ⟨D.length + 1, ds_9 hC h3 ht hp H D [] f12 f13 rfl⟩
end
end
section
/-! ===== the methods that write ===== -/
theorem ds_c00 : nI 0 ≤ 0 := by decide
theorem ds_c10 : ¬ nI 1 ≤ 0 := by decide
theorem ds_c20 : ¬ nI 2 ≤ 0 := by decide
theorem ds_c11 : nI 1 ≤ 1 := by decide
theorem ds_c21 : ¬ nI 2 ≤ 1 := by decide
theorem ds_bl_bk {R : ds_R} (h : ds_rk R) : (ds_bl R).length ≤ 2 ∧ ∀ b, b ∈ ds_bl R → ds_bk b := by
  obtain ⟨hl, hg⟩ := h
  have key : ∀ (k : Nat) (g : Nat × List Nat), g ∈ R → k < 3 → k ≠ 0 → ds_bk (k, g) := fun k g hm hk h0 => ⟨hk, (hg g hm).1, (hg g hm).2.1, (hg g hm).2.2, fun q => absurd q h0⟩
  rcases R with _ | ⟨x, _ | ⟨y, _ | ⟨z, R⟩⟩⟩
  · refine ⟨by decide, fun b hb => ?_⟩
    have e : b = (0, 0, []) := List.mem_singleton.mp hb
    subst e
    exact ⟨by decide, by decide, by decide, fun v hv => absurd hv (by simp), fun _ => rfl⟩
  · refine ⟨Nat.le_succ 1, fun b hb => ?_⟩
    have e : b = (1, x) := List.mem_singleton.mp hb
    subst e
    exact key 1 x (by simp) (by decide) (by decide)
  · refine ⟨Nat.le_refl 2, fun b hb => ?_⟩
    have e : b = (1, x) ∨ b = (2, y) := by
      have hb' : b ∈ [((1, x) : ds_B), (2, y)] := hb
      simpa using hb'
    rcases e with e | e
    · subst e
      exact key 1 x (by simp) (by decide) (by decide)
    · subst e
      exact key 2 y (by simp) (by decide) (by decide)
  · simp at hl
theorem ds_ob_bl (O : ds_R) : ∀ b, b ∈ ds_ob O → b ∈ ds_bl O := by
  intro b hb
  rcases O with _ | ⟨x, _ | ⟨y, O⟩⟩
  · cases hb
  · exact hb
  · exact hb
theorem ds_ob_len (O : ds_R) : (ds_ob O).length ≤ 2 := by
  rcases O with _ | ⟨x, _ | ⟨y, O⟩⟩
  · decide
  · exact Nat.le_succ 1
  · exact Nat.le_refl 2
theorem ds_all_bk : ∀ {D : List ds_R}, (∀ R, R ∈ D → ds_rk R) → (ds_all D).length ≤ 2 * D.length ∧ ∀ b, b ∈ ds_all D → ds_bk b
  | [], h => ⟨Nat.le_refl _, fun b hb => absurd hb (by simp [ds_all])⟩
  | R :: D, h => by
    obtain ⟨h1, h2⟩ := ds_all_bk (D := D) (fun R' h' => h R' (List.mem_cons_of_mem _ h'))
    obtain ⟨h3, h4⟩ := ds_bl_bk (h R List.mem_cons_self)
    refine ⟨?_, fun b hb => ?_⟩
    · rw [ds_all, List.length_append, List.length_cons]
      omega
    · rw [ds_all] at hb
      rcases List.mem_append.mp hb with q | q
      · exact h4 b q
      · exact h2 b q
theorem ds_wf_ob {D : List ds_R} {O : ds_R} (h : ∀ R, R ∈ D → ds_rk R) (hl : D.length ≤ 4) (hO : ds_rk O) : ds_wf (ds_all D ++ ds_ob O) := by
  obtain ⟨h1, h2⟩ := ds_all_bk h
  have h3 := ds_ob_len O
  refine ⟨by rw [List.length_append]; omega, fun b hb => ?_⟩
  rcases List.mem_append.mp hb with q | q
  · exact h2 b q
  · exact (ds_bl_bk hO).2 b (ds_ob_bl O b q)
theorem ds_wf_ov {D : List ds_R} {O : ds_R} (h : ∀ R, R ∈ D → ds_rk R) (hl : D.length ≤ 4) (hO : ds_rk O) : ds_wf (ds_all D ++ ds_ov O) := by
  have hw := ds_wf_ob h hl hO
  obtain ⟨X, hX⟩ := ds_ob_ov O
  rw [hX, ← List.append_assoc] at hw
  exact (ds_wf_app hw).1
def ds_last : ds_R → Nat
  | [] => 0
  | [g] => g.2.length
  | _ :: h :: _ => h.2.length
/-- the picture of a state: the ended records D, whether one has begun (o), and that one, O -/
def ds_K (D : List ds_R) (o : Nat) (O : ds_R) (f1 f2 f3 f4 f5 f6 f7 f8 f9 f10 f11 : Int32) (a3 a4 a5 a6 a7 a8 : Nat → Int32) : Prop :=
  ds_X (ds_ta (ds_all D ++ ds_ob O)) (ds_td (ds_all D ++ ds_ob O)) (ds_tl (ds_all D ++ ds_ob O)) f5 f6 a3 a4 a5 ∧
  ds_W (ds_va (ds_all D ++ ds_ov O)) (ds_vd (ds_all D ++ ds_ov O)) (ds_vl (ds_all D ++ ds_ov O)) f7 f8 a6 a7 a8 ∧
  (∀ R, R ∈ D → ds_rk R) ∧ ds_rk O ∧ D.length + o ≤ 4 ∧ o < 2 ∧ (o = 0 → O = []) ∧
  f1 = nI o ∧ f2 = nI (D.length + o) ∧ f3 = nI D.length ∧ f4 = nI (D.length + o) ∧
  (o = 1 → f9 = nI O.length) ∧ (o = 1 → 0 < O.length → f10 = nI (ds_last O)) ∧ (∃ gc : Nat, f11 = nI gc ∧ gc ≤ 2 * D.length + O.length)
section
variable {f1 f2 f3 f4 f5 f6 f7 f8 f9 f10 f11 f12 f13 : Int32} {a1 a2 a3 a4 a5 a6 a7 a8 : Nat → Int32}
theorem ds_K_C {D : List ds_R} {o : Nat} {O : ds_R} (h : ds_K D o O f1 f2 f3 f4 f5 f6 f7 f8 f9 f10 f11 a3 a4 a5 a6 a7 a8) : ds_C D O f5 f6 f7 f8 a3 a4 a5 a6 a7 a8 := by
  obtain ⟨hX, hW, hD, hO, hl, _⟩ := h
  exact ⟨⟨ds_wf_ob hD (by omega) hO, hX⟩, ⟨ds_wf_ov hD (by omega) hO, hW⟩, hD, by omega⟩
theorem ds_addV {post : St1 → Prop} {LA LD LV : List Nat} {x y : Nat} (h : ds_W LA LD LV f7 f8 a6 a7 a8) (hl : LA.length < 100) (H : ∀ g b6 b7, ds_W (LA ++ [x]) (LD ++ [y]) LV g f8 b6 b7 a8 → post (f1, f2, f3, f4, f5, f6, g, f8, f9, f10, f11, f12, f13, a1, a2, a3, a4, a5, b6, b7, a8)) : wpX_addValueEntry post (f1, f2, f3, f4, f5, f6, f7, f8, f9, f10, f11, f12, f13, a1, a2, a3, a4, a5, a6, a7, a8) (nI x) (nI y) := by
  obtain ⟨h1, h2, h3, h4, h5, h6⟩ := h
  subst h1
  have hc : (nI LA.length).toNatClampNeg = LA.length := nI_clamp (by omega)
  have i1 : vp_in (nI LA.length) 112 := vp_in_nI (by omega) (by decide)
  refine ⟨i1, nm_e ⟨i1, nm_e (nm_e (H _ _ _ ⟨?_, ?_, h3, ds_ok_push h4 hc, ds_ok_push h5 (hc.trans h2.symm), h6⟩))⟩⟩
  · rw [nI_1, List.length_append]
    rfl
  · rw [List.length_append, List.length_append, h2]
    rfl
theorem ds_addT {post : St1 → Prop} {LA LD LT : List Nat} {x y : Nat} (h : ds_X LA LD LT f5 f6 a3 a4 a5) (hl : LA.length < 50) (H : ∀ g b3 b4, ds_X (LA ++ [x]) (LD ++ [y]) LT g f6 b3 b4 a5 → post (f1, f2, f3, f4, g, f6, f7, f8, f9, f10, f11, f12, f13, a1, a2, b3, b4, a5, a6, a7, a8)) : wpX_addTagEntry post (f1, f2, f3, f4, f5, f6, f7, f8, f9, f10, f11, f12, f13, a1, a2, a3, a4, a5, a6, a7, a8) (nI x) (nI y) := by
  obtain ⟨h1, h2, h3, h4, h5, h6⟩ := h
  subst h1
  have hc : (nI LA.length).toNatClampNeg = LA.length := nI_clamp (by omega)
  have i1 : vp_in (nI LA.length) 52 := vp_in_nI (by omega) (by decide)
  refine ⟨i1, nm_e ⟨i1, nm_e (nm_e (H _ _ _ ⟨?_, ?_, h3, ds_ok_push h4 hc, ds_ok_push h5 (hc.trans h2.symm), h6⟩))⟩⟩
  · rw [nI_1, List.length_append]
    rfl
  · rw [List.length_append, List.length_append, h2]
    rfl
theorem ds_close {post : St1 → Prop} {Q : List ds_B} {O : ds_R} (hO : O.length ≤ 2) (hl : (ds_va Q).length < 80) (hl2 : ∀ x, (ds_va (Q ++ [x])).length < 100 ∨ 2 < x.2.2.length) (hw2 : ∀ g, g ∈ O → g.2.length ≤ 2) (h : ds_W (ds_va (Q ++ ds_ov O)) (ds_vd (Q ++ ds_ov O)) (ds_vl (Q ++ ds_ov O)) f7 f8 a6 a7 a8) (h9 : f9 = nI O.length) (h10 : 0 < O.length → f10 = nI (ds_last O))
    (H : ∀ g b6 b7, ds_W (ds_va (Q ++ ds_ob O)) (ds_vd (Q ++ ds_ob O)) (ds_vl (Q ++ ds_ob O)) g f8 b6 b7 a8 → post (f1, f2, f3, f4, f5, f6, g, f8, f9, f10, f11, f12, f13, a1, a2, a3, a4, a5, b6, b7, a8)) : wpX_closeGroup post (f1, f2, f3, f4, f5, f6, f7, f8, f9, f10, f11, f12, f13, a1, a2, a3, a4, a5, a6, a7, a8) := by
  subst h9
  rcases O with _ | ⟨⟨tx, vx⟩, _ | ⟨⟨ty, vy⟩, _ | ⟨z, O⟩⟩⟩
  · exact br_t (by decide) (H _ _ _ h)
  · have h10 := h10 (by simp)
    subst h10
    rcases vx with _ | ⟨v, vx⟩
    · refine br_f ds_c10 (br_t rfl (br_t ds_c11 ?_))
      have h' : ds_W (ds_va Q) (ds_vd Q) (ds_vl Q) f7 f8 a6 a7 a8 := by
        have q : Q ++ ds_ov [(tx, [])] = Q := List.append_nil Q
        rw [q] at h
        exact h
      refine ds_addV (x := 0) (y := 1) h' (by omega) (fun g b6 b7 hW => H g b6 b7 ?_)
      have q : ds_ob [(tx, [])] = [(1, tx, [])] := rfl
      rw [q, ds_va_app, ds_vd_app, ds_vl_app, ds_va_1, ds_vd_1, ds_vl_1, List.append_nil]
      exact hW
    · refine br_f ds_c10 (br_f (fun q => ?_) (H _ _ _ h))
      have hv := hw2 (tx, v :: vx) (by simp)
      have q2 : nI (v :: vx).length = nI 0 := q
      have q3 := (nI_eq (by have : (v :: vx).length ≤ 2 := hv; omega) (by omega)).mp q2
      simp at q3
  · have h10 := h10 (by simp)
    subst h10
    rcases vy with _ | ⟨v, vy⟩
    · refine br_f ds_c20 (br_t rfl (br_f ds_c21 ?_))
      have hb : (ds_va (Q ++ [(1, tx, vx)])).length < 100 := by
        rcases hl2 (1, tx, vx) with q | q
        · exact q
        · have hv : vx.length ≤ 2 := hw2 (tx, vx) (by simp)
          have q' : 2 < vx.length := q
          omega
      have h' : ds_W (ds_va (Q ++ [(1, tx, vx)])) (ds_vd (Q ++ [(1, tx, vx)])) (ds_vl (Q ++ [(1, tx, vx)])) f7 f8 a6 a7 a8 := h
      refine ds_addV (x := 1) (y := 1) h' hb (fun g b6 b7 hW => H g b6 b7 ?_)
      have q : Q ++ ds_ob [(tx, vx), (ty, [])] = (Q ++ [(1, tx, vx)]) ++ [(2, ty, [])] := by
        rw [List.append_assoc]
        rfl
      rw [q, ds_va_app _ [(2, ty, [])], ds_vd_app _ [(2, ty, [])], ds_vl_app _ [(2, ty, [])], ds_va_1, ds_vd_1, ds_vl_1, List.append_nil]
      exact hW
    · refine br_f ds_c20 (br_f (fun q => ?_) (H _ _ _ h))
      have hv := hw2 (ty, v :: vy) (by simp)
      have q2 : nI (v :: vy).length = nI 0 := q
      have q3 := (nI_eq (by have : (v :: vy).length ≤ 2 := hv; omega) (by omega)).mp q2
      simp at q3
  · simp at hO
/-- closeGroup under the picture -/
theorem ds_closeK {post : St1 → Prop} {D : List ds_R} {O : ds_R} (h : ds_K D 1 O f1 f2 f3 f4 f5 f6 f7 f8 f9 f10 f11 a3 a4 a5 a6 a7 a8) (H : ∀ g b6 b7, ds_W (ds_va (ds_all D ++ ds_ob O)) (ds_vd (ds_all D ++ ds_ob O)) (ds_vl (ds_all D ++ ds_ob O)) g f8 b6 b7 a8 → post (f1, f2, f3, f4, f5, f6, g, f8, f9, f10, f11, f12, f13, a1, a2, a3, a4, a5, b6, b7, a8)) : wpX_closeGroup post (f1, f2, f3, f4, f5, f6, f7, f8, f9, f10, f11, f12, f13, a1, a2, a3, a4, a5, a6, a7, a8) := by
  obtain ⟨hX, hW, hD, hO, hl, ho, ho0, e1, e2, e3, e4, e9, e10, gc, e11, hgc⟩ := h
  obtain ⟨l1, l2⟩ := ds_all_bk hD
  have l3 := ds_va_le l2
  refine ds_close hO.1 (by omega) (fun x => ?_) (fun g hg => (hO.2 g hg).2.1) hW (e9 rfl) (e10 rfl) H
  rw [ds_va_app, ds_va_1, List.length_append]
  simp only [ds_ea, List.length_cons, List.length_replicate]
  omega
theorem ds_begin {post : Int32 → St1 → Prop} {D : List ds_R} {x : Int32} (h : ds_K D 0 [] f1 f2 f3 f4 f5 f6 f7 f8 f9 f10 f11 a3 a4 a5 a6 a7 a8) (hl : D.length < 4)
    (H : ∀ (g1 g2 g3 g4 g5 g6 g7 g8 g9 g10 g11 g12 g13 : Int32) (b1 b2 b3 b4 b5 b6 b7 b8 : Nat → Int32), ds_K D 1 [] g1 g2 g3 g4 g5 g6 g7 g8 g9 g10 g11 b3 b4 b5 b6 b7 b8 → post (nI D.length) (g1, g2, g3, g4, g5, g6, g7, g8, g9, g10, g11, g12, g13, b1, b2, b3, b4, b5, b6, b7, b8)) : wpX_begin post (f1, f2, f3, f4, f5, f6, f7, f8, f9, f10, f11, f12, f13, a1, a2, a3, a4, a5, a6, a7, a8) 1 x := by
  obtain ⟨hX, hW, hD, hO, hl', ho, ho0, e1, e2, e3, e4, e9, e10, gc, e11, hgc⟩ := h
  subst e1 e2 e3 e4 e11
  refine br_t rfl (br_t (nI_lt (b := 12) (by omega) (by decide)) ⟨vp_in_nI (by omega) (by decide), nm_e (br_f (by decide) ⟨vp_in_nI (by omega) (by decide), nm_e (nm_r (nI_1 _) (nm_r (nI_1 _) ?_))⟩)⟩)
  rw [nI_pred]
  exact H _ _ _ _ _ _ _ _ _ _ _ _ _ _ _ _ _ _ _ _ _ ⟨hX, hW, hD, hO, by omega, by decide, fun q => absurd q (by decide), rfl, rfl, rfl, rfl, fun _ => rfl, fun _ q => absurd q (by simp), gc, rfl, hgc⟩
theorem ds_group {post : Int32 → St1 → Prop} {D : List ds_R} {O : ds_R} {t : Nat} {p : Int32} (h : ds_K D 1 O f1 f2 f3 f4 f5 f6 f7 f8 f9 f10 f11 a3 a4 a5 a6 a7 a8) (hl : O.length < 2) (ht : t < 4) (hp : p = nI (if t = 0 then 0 else 1))
    (H : ∀ (g1 g2 g3 g4 g5 g6 g7 g8 g9 g10 g11 g12 g13 : Int32) (b1 b2 b3 b4 b5 b6 b7 b8 : Nat → Int32), ds_K D 1 (O ++ [(t, [])]) g1 g2 g3 g4 g5 g6 g7 g8 g9 g10 g11 b3 b4 b5 b6 b7 b8 → post (nI (O.length + 1)) (g1, g2, g3, g4, g5, g6, g7, g8, g9, g10, g11, g12, g13, b1, b2, b3, b4, b5, b6, b7, b8)) : wpX_group post (f1, f2, f3, f4, f5, f6, f7, f8, f9, f10, f11, f12, f13, a1, a2, a3, a4, a5, a6, a7, a8) p (nI t) := by
  have hK := h
  obtain ⟨hX, hW, hD, hO, hl', ho, ho0, e1, e2, e3, e4, e9, e10, gc, e11, hgc⟩ := h
  have e9' := e9 rfl
  obtain ⟨l1, l2⟩ := ds_all_bk hD
  have l4 := ds_ob_len O
  have l5 : (ds_all D ++ ds_ob O).length ≤ 10 := by rw [List.length_append]; omega
  have l6 := ds_tl_le (ds_all D ++ ds_ob O)
  have hta : (ds_ta (ds_all D ++ ds_ob O)).length < 50 := by rw [ds_ta_len]; omega
  have hO' : ds_rk (O ++ [(t, [])]) := by
    refine ⟨by rw [List.length_append]; show O.length + 1 ≤ 2; omega, fun g hg => ?_⟩
    rcases List.mem_append.mp hg with q | q
    · exact hO.2 g q
    · have q' : g = (t, []) := List.mem_singleton.mp q
      subst q'
      exact ⟨ht, Nat.zero_le 2, fun v hv => absurd hv (by simp)⟩
  have eov : ds_ov (O ++ [(t, [])]) = ds_ob O := by
    rcases O with _ | ⟨x, _ | ⟨y, O⟩⟩
    · rfl
    · rfl
    · have hl2 : O.length + 1 + 1 < 2 := hl
      omega
  have eob : ds_all D ++ ds_ob (O ++ [(t, [])]) = (ds_all D ++ ds_ob O) ++ [(if O.length = 0 then 1 else 2, t, [])] := by
    rcases O with _ | ⟨x, _ | ⟨y, O⟩⟩
    · rw [List.append_assoc]
      rfl
    · rw [List.append_assoc]
      rfl
    · have hl2 : O.length + 1 + 1 < 2 := hl
      omega
  have hlen : (O ++ [(t, ([] : List Nat))]).length = O.length + 1 := by rw [List.length_append]; rfl
  have hlast : ds_last (O ++ [(t, [])]) = 0 := by
    rcases O with _ | ⟨x, _ | ⟨y, O⟩⟩
    · rfl
    · rfl
    · have hl2 : O.length + 1 + 1 < 2 := hl
      omega
  have k43 : ∀ (z0 : Nat) (b7' : Int32) (b6 b7 : Nat → Int32), z0 = ds_ag (if O.length = 0 then 1 else 2, t, []) → ds_W (ds_va (ds_all D ++ ds_ob O)) (ds_vd (ds_all D ++ ds_ob O)) (ds_vl (ds_all D ++ ds_ob O)) b7' f8 b6 b7 a8 → wX_group_43 post p (nI t) (nI z0) f1 f2 f3 f4 f5 f6 b7' f8 f9 f10 f11 f12 f13 a1 a2 a3 a4 a5 b6 b7 a8 := by
    intro z0 b7' b6 b7 hz hW'
    have hz0 : ¬ (if O.length = 0 then 1 else 2) = 0 := by split <;> omega
    have fin : ∀ (g5 g6 : Int32) (b3 b4 b5 : Nat → Int32), ds_X (ds_ta (ds_all D ++ ds_ob (O ++ [(t, [])]))) (ds_td (ds_all D ++ ds_ob (O ++ [(t, [])]))) (ds_tl (ds_all D ++ ds_ob (O ++ [(t, [])]))) g5 g6 b3 b4 b5 → wX_group_79 post f1 f2 f3 f4 g5 g6 b7' f8 f9 f10 f11 f12 f13 a1 a2 b3 b4 b5 b6 b7 a8 := by
      intro g5 g6 b3 b4 b5 hX'
      rw [e9', e11]
      refine nm_r (nI_1 _) (nm_r (nI_1 _) (H _ _ _ _ _ _ _ _ _ _ _ _ _ _ _ _ _ _ _ _ _ ⟨hX', by rw [eov]; exact hW', hD, hO', hl', ho, fun q => absurd q (by decide), e1, e2, e3, e4, fun _ => by rw [hlen], fun _ _ => by rw [hlast]; rfl, gc + 1, rfl, by rw [hlen]; omega⟩))
    subst hp
    by_cases q : t = 0
    · rw [if_pos q]
      refine br_t rfl ?_
      refine ds_addT (x := z0) (y := 1) hX hta (fun g b3 b4 hX' => br_t rfl (fin _ _ _ _ _ ?_))
      have et : ds_tdp (if O.length = 0 then 1 else 2, t, []) = 1 := by
        unfold ds_tdp
        rw [if_neg hz0, if_pos q]
      have etg : ds_tg (if O.length = 0 then 1 else 2, t, []) = [] := by
        unfold ds_tg
        rw [if_neg (by rw [et]; decide)]
      rw [eob, ds_ta_app _ [_], ds_td_app _ [_], ds_tl_app _ [_], ds_tl_1, etg, List.append_nil]
      show ds_X (_ ++ [ds_ag _]) (_ ++ [ds_tdp _]) _ _ _ _ _ _
      rw [et, ← hz]
      exact hX'
    · rw [if_neg q]
      refine br_f (by decide) ?_
      refine ds_addT (x := z0) (y := 2) hX hta (fun g b3 b4 hX' => br_f (by decide) ?_)
      obtain ⟨x1, x2, x3, x4, x5, x6⟩ := hX'
      subst x3
      have hc : (nI (ds_tl (ds_all D ++ ds_ob O)).length).toNatClampNeg = (ds_tl (ds_all D ++ ds_ob O)).length := nI_clamp (by omega)
      refine ⟨vp_in_nI (by omega) (by decide), nm_e (nm_r (nI_1 _) (fin _ _ _ _ _ ?_))⟩
      have et : ds_tdp (if O.length = 0 then 1 else 2, t, []) = 2 := by
        unfold ds_tdp
        rw [if_neg hz0, if_neg q]
      have etg : ds_tg (if O.length = 0 then 1 else 2, t, []) = [t] := by
        unfold ds_tg
        rw [if_pos et]
      rw [eob, ds_ta_app _ [_], ds_td_app _ [_], ds_tl_app _ [_], ds_tl_1, etg]
      show ds_X (_ ++ [ds_ag _]) (_ ++ [ds_tdp _]) _ _ _ _ _ _
      rw [et, ← hz]
      refine ⟨x1, x2, ?_, x4, x5, ds_ok_push x6 hc⟩
      rw [List.length_append]
      rfl
  unfold wpX_group
  refine br_f (by rw [e1]; decide) (br_f (by rw [e9']; exact nI_ge (b := 4) (by omega) (by decide)) (br_t (by rw [e11]; exact nI_lt (b := 40) (by omega) (by decide)) ?_))
  refine ds_closeK hK (fun g b6 b7 hW' => ?_)
  refine pk_eq O.length 0 (fun q => ?_) (fun q => ?_) e9' rfl
  · exact k43 0 g b6 b7 (by rw [if_pos q]; rfl) hW'
  · exact k43 1 g b6 b7 (by rw [if_neg q]; rfl) hW'
theorem ds_58 {post : Int32 → St1 → Prop} {LA LD LV : List Nat} {z v m : Nat} (h : ds_W LA LD LV f7 f8 a6 a7 a8) (hl : LA.length < 100) (hl2 : LV.length < 50) (h10 : f10 = nI m)
    (H : ∀ g7 g8 b6 b7 b8, ds_W (LA ++ [z]) (LD ++ [2]) (LV ++ [v]) g7 g8 b6 b7 b8 → post (nI (m + 1)) (f1, f2, f3, f4, f5, f6, g7, g8, f9, nI (m + 1), f11, f12, f13, a1, a2, a3, a4, a5, b6, b7, b8)) : wX_value_58 post (nI v) (nI z) f1 f2 f3 f4 f5 f6 f7 f8 f9 f10 f11 f12 f13 a1 a2 a3 a4 a5 a6 a7 a8 := by
  subst h10
  unfold wX_value_58
  refine ds_addV (x := z) (y := 2) h hl (fun g b6 b7 hW => ?_)
  obtain ⟨h1, h2, h3, h4, h5, h6⟩ := hW
  subst h3
  have hc : (nI LV.length).toNatClampNeg = LV.length := nI_clamp (by omega)
  refine ⟨vp_in_nI (by omega) (by decide), nm_e (nm_r (nI_1 _) (nm_r (nI_1 _) (H _ _ _ _ _ ⟨h1, h2, ?_, h4, h5, ds_ok_push h6 hc⟩)))⟩
  rw [List.length_append]
  rfl
theorem ds_value {post : Int32 → St1 → Prop} {D : List ds_R} {O : ds_R} {v : Nat} (h : ds_K D 1 O f1 f2 f3 f4 f5 f6 f7 f8 f9 f10 f11 a3 a4 a5 a6 a7 a8) (hl : 0 < O.length) (hm : ds_last O < 2) (hv : v < 16)
    (H : ∀ (g1 g2 g3 g4 g5 g6 g7 g8 g9 g10 g11 g12 g13 : Int32) (b1 b2 b3 b4 b5 b6 b7 b8 : Nat → Int32), ds_K D 1 (ds_add O v) g1 g2 g3 g4 g5 g6 g7 g8 g9 g10 g11 b3 b4 b5 b6 b7 b8 → post (nI (ds_last O + 1)) (g1, g2, g3, g4, g5, g6, g7, g8, g9, g10, g11, g12, g13, b1, b2, b3, b4, b5, b6, b7, b8)) : wpX_value post (f1, f2, f3, f4, f5, f6, f7, f8, f9, f10, f11, f12, f13, a1, a2, a3, a4, a5, a6, a7, a8) (nI v) := by
  obtain ⟨hX, hW, hD, hO, hl', ho, ho0, e1, e2, e3, e4, e9, e10, gc, e11, hgc⟩ := h
  have e9' := e9 rfl
  have e10' := e10 rfl hl
  have hO2 := hO.1
  obtain ⟨w1, w2⟩ := ds_wf_ov hD (by omega) hO
  have l1 := ds_va_le w2
  have l2 := ds_vl_le w2
  have hla : (ds_va (ds_all D ++ ds_ov O)).length < 100 := by omega
  have hlv : (ds_vl (ds_all D ++ ds_ov O)).length < 50 := by omega
  have h8 : f8 < 60 := by
    rw [hW.2.2.1]
    exact nI_lt (b := 60) (by omega) (by decide)
  have hO' : ds_rk (ds_add O v) := by
    rcases O with _ | ⟨x, _ | ⟨y, _ | ⟨z, O⟩⟩⟩
    · simp at hl
    · have hm' : x.2.length < 2 := hm
      refine ⟨Nat.le_succ 1, fun g hg => ?_⟩
      have e : g = (x.1, x.2 ++ [v]) := List.mem_singleton.mp hg
      subst e
      have hx := hO.2 x (by simp)
      refine ⟨hx.1, by rw [List.length_append]; show x.2.length + 1 ≤ 2; omega, fun w hw => ?_⟩
      rcases List.mem_append.mp hw with q | q
      · exact hx.2.2 w q
      · rw [List.mem_singleton.mp q]
        exact hv
    · have hm' : y.2.length < 2 := hm
      refine ⟨Nat.le_refl 2, fun g hg => ?_⟩
      have e : g = x ∨ g = (y.1, y.2 ++ [v]) := by
        have hg' : g ∈ [x, (y.1, y.2 ++ [v])] := hg
        simpa using hg'
      rcases e with e | e
      · rw [e]
        exact hO.2 x (by simp)
      · subst e
        have hy := hO.2 y (by simp)
        refine ⟨hy.1, by rw [List.length_append]; show y.2.length + 1 ≤ 2; omega, fun w hw => ?_⟩
        rcases List.mem_append.mp hw with q | q
        · exact hy.2.2 w q
        · rw [List.mem_singleton.mp q]
          exact hv
    · simp at hO2
  have eob : ds_ta (ds_ob (ds_add O v)) = ds_ta (ds_ob O) ∧ ds_td (ds_ob (ds_add O v)) = ds_td (ds_ob O) ∧ ds_tl (ds_ob (ds_add O v)) = ds_tl (ds_ob O) := by
    rcases O with _ | ⟨x, _ | ⟨y, O⟩⟩
    · exact ⟨rfl, rfl, rfl⟩
    · exact ⟨rfl, rfl, rfl⟩
    · exact ⟨rfl, rfl, rfl⟩
  have hX' : ds_X (ds_ta (ds_all D ++ ds_ob (ds_add O v))) (ds_td (ds_all D ++ ds_ob (ds_add O v))) (ds_tl (ds_all D ++ ds_ob (ds_add O v))) f5 f6 a3 a4 a5 := by
    rw [ds_ta_app, ds_td_app, ds_tl_app, eob.1, eob.2.1, eob.2.2, ← ds_ta_app, ← ds_td_app, ← ds_tl_app]
    exact hX
  have hlen : (ds_add O v).length = O.length := by
    rcases O with _ | ⟨x, _ | ⟨y, _ | ⟨z, O⟩⟩⟩
    · rfl
    · rfl
    · rfl
    · simp at hO2
  have hlast : ds_last (ds_add O v) = ds_last O + 1 := by
    rcases O with _ | ⟨x, _ | ⟨y, O⟩⟩
    · simp at hl
    · exact List.length_append
    · exact List.length_append
  have fin : ∀ z : Nat, (ds_va (ds_all D ++ ds_ov (ds_add O v)) = ds_va (ds_all D ++ ds_ov O) ++ [z] ∧ ds_vd (ds_all D ++ ds_ov (ds_add O v)) = ds_vd (ds_all D ++ ds_ov O) ++ [2] ∧ ds_vl (ds_all D ++ ds_ov (ds_add O v)) = ds_vl (ds_all D ++ ds_ov O) ++ [v]) → wX_value_58 post (nI v) (nI z) f1 f2 f3 f4 f5 f6 f7 f8 f9 f10 f11 f12 f13 a1 a2 a3 a4 a5 a6 a7 a8 := by
    intro z hz
    refine ds_58 hW hla hlv e10' (fun g7 g8 b6 b7 b8 hW' => H _ _ _ _ _ _ _ _ _ _ _ _ _ _ _ _ _ _ _ _ _ ⟨hX', ?_, hD, hO', hl', ho, fun q => absurd q (by decide), e1, e2, e3, e4, fun _ => ?_, fun _ _ => ?_, gc, e11, ?_⟩)
    · rw [hz.1, hz.2.1, hz.2.2]
      exact hW'
    · rw [hlen]
      exact e9'
    · rw [hlast]
    · rw [hlen]
      exact hgc
  refine br_f (by rw [e1]; decide) (br_f (by rw [e9']; exact nI_ne0 hl (by omega)) (br_f (by rw [e10']; exact nI_ge (b := 4) (by omega) (by decide)) (br_t h8 ?_)))
  rcases O with _ | ⟨⟨tx, vx⟩, _ | ⟨⟨ty, vy⟩, _ | ⟨z, O⟩⟩⟩
  · simp at hl
  · rcases vx with _ | ⟨a, _ | ⟨b, vx⟩⟩
    · refine br_t (by rw [e10']; exact ds_c00) (br_t (by rw [e9']; exact ds_c11) (fin 0 ?_))
      have q1 : ds_ov [(tx, ([] : List Nat))] = [] := rfl
      have q2 : ds_ov (ds_add [(tx, [])] v) = [(1, tx, [v])] := rfl
      rw [q1, q2, List.append_nil, ds_va_app, ds_vd_app, ds_vl_app, ds_va_1, ds_vd_1, ds_vl_1]
      exact ⟨rfl, rfl, rfl⟩
    · refine br_f (by rw [e10']; exact ds_c10) (fin 2 ?_)
      have q1 : ds_ov [(tx, [a])] = [(1, tx, [a])] := rfl
      have q2 : ds_ov (ds_add [(tx, [a])] v) = [(1, tx, [a, v])] := rfl
      rw [q1, q2, ds_va_app, ds_vd_app, ds_vl_app, ds_va_1, ds_vd_1, ds_vl_1, ds_va_app, ds_vd_app, ds_vl_app, ds_va_1, ds_vd_1, ds_vl_1, List.append_assoc, List.append_assoc, List.append_assoc]
      exact ⟨rfl, rfl, rfl⟩
    · simp [ds_last] at hm
      omega
  · rcases vy with _ | ⟨a, _ | ⟨b, vy⟩⟩
    · refine br_t (by rw [e10']; exact ds_c00) (br_f (by rw [e9']; exact ds_c21) (fin 1 ?_))
      have q1 : ds_all D ++ ds_ov [(tx, vx), (ty, ([] : List Nat))] = ds_all D ++ [(1, tx, vx)] := rfl
      have q2 : ds_all D ++ ds_ov (ds_add [(tx, vx), (ty, [])] v) = (ds_all D ++ [(1, tx, vx)]) ++ [(2, ty, [v])] := by
        rw [List.append_assoc]
        rfl
      rw [q1, q2, ds_va_app _ [(2, ty, [v])], ds_vd_app _ [(2, ty, [v])], ds_vl_app _ [(2, ty, [v])], ds_va_1, ds_vd_1, ds_vl_1]
      exact ⟨rfl, rfl, rfl⟩
    · refine br_f (by rw [e10']; exact ds_c10) (fin 2 ?_)
      have q1 : ds_all D ++ ds_ov [(tx, vx), (ty, [a])] = (ds_all D ++ [(1, tx, vx)]) ++ [(2, ty, [a])] := by
        rw [List.append_assoc]
        rfl
      have q2 : ds_all D ++ ds_ov (ds_add [(tx, vx), (ty, [a])] v) = (ds_all D ++ [(1, tx, vx)]) ++ [(2, ty, [a, v])] := by
        rw [List.append_assoc]
        rfl
      rw [q1, q2, ds_va_app _ [(2, ty, [a])], ds_vd_app _ [(2, ty, [a])], ds_vl_app _ [(2, ty, [a])], ds_va_app _ [(2, ty, [a, v])], ds_vd_app _ [(2, ty, [a, v])], ds_vl_app _ [(2, ty, [a, v])], ds_va_1, ds_vd_1, ds_vl_1, ds_va_1, ds_vd_1, ds_vl_1, List.append_assoc, List.append_assoc, List.append_assoc]
      exact ⟨rfl, rfl, rfl⟩
    · simp [ds_last] at hm
      omega
  · simp at hO2
theorem ds_end {post : Int32 → St1 → Prop} {D : List ds_R} {O : ds_R} (h : ds_K D 1 O f1 f2 f3 f4 f5 f6 f7 f8 f9 f10 f11 a3 a4 a5 a6 a7 a8)
    (H : ∀ (g1 g2 g3 g4 g5 g6 g7 g8 g9 g10 g11 g12 g13 : Int32) (b1 b2 b3 b4 b5 b6 b7 b8 : Nat → Int32), ds_K (D ++ [O]) 0 [] g1 g2 g3 g4 g5 g6 g7 g8 g9 g10 g11 b3 b4 b5 b6 b7 b8 → post (nI (D.length + 1)) (g1, g2, g3, g4, g5, g6, g7, g8, g9, g10, g11, g12, g13, b1, b2, b3, b4, b5, b6, b7, b8)) : wpX_end post (f1, f2, f3, f4, f5, f6, f7, f8, f9, f10, f11, f12, f13, a1, a2, a3, a4, a5, a6, a7, a8) := by
  have hK := h
  obtain ⟨hX, hW, hD, hO, hl', ho, ho0, e1, e2, e3, e4, e9, e10, gc, e11, hgc⟩ := h
  have e9' := e9 rfl
  have hO2 := hO.1
  obtain ⟨l1, l2⟩ := ds_all_bk hD
  have l3 := ds_va_le l2
  have hlen : (D ++ [O]).length = D.length + 1 := by rw [List.length_append]; rfl
  have hD' : ∀ R, R ∈ D ++ [O] → ds_rk R := by
    intro R hR
    rcases List.mem_append.mp hR with q | q
    · exact hD R q
    · rw [List.mem_singleton.mp q]
      exact hO
  have eall : ds_all (D ++ [O]) = ds_all D ++ ds_bl O := by
    rw [ds_all_app]
    show ds_all D ++ (ds_bl O ++ []) = _
    rw [List.append_nil]
  have fin : ∀ (g5 g6 g7 : Int32) (b3 b4 b5 b6 b7 : Nat → Int32), ds_X (ds_ta (ds_all D ++ ds_bl O)) (ds_td (ds_all D ++ ds_bl O)) (ds_tl (ds_all D ++ ds_bl O)) g5 g6 b3 b4 b5 → ds_W (ds_va (ds_all D ++ ds_bl O)) (ds_vd (ds_all D ++ ds_bl O)) (ds_vl (ds_all D ++ ds_bl O)) g7 f8 b6 b7 a8 → wX_end_32 post f1 f2 f3 f4 g5 g6 g7 f8 f9 f10 f11 f12 f13 a1 a2 b3 b4 b5 b6 b7 a8 := by
    intro g5 g6 g7 b3 b4 b5 b6 b7 hX' hW'
    rw [e3]
    refine nm_r (nI_1 _) (H _ _ _ _ _ _ _ _ _ _ _ _ _ _ _ _ _ _ _ _ _ ⟨?_, ?_, hD', ⟨by decide, fun g hg => absurd hg (by simp)⟩, by rw [hlen]; omega, by decide, fun _ => rfl, rfl, by rw [hlen]; exact e2, by rw [hlen], by rw [hlen]; exact e4, fun q => absurd q (by decide), fun q => absurd q (by decide), gc, e11, by rw [hlen]; omega⟩)
    · rw [eall]
      show ds_X (ds_ta ((ds_all D ++ ds_bl O) ++ [])) (ds_td ((ds_all D ++ ds_bl O) ++ [])) (ds_tl ((ds_all D ++ ds_bl O) ++ [])) _ _ _ _ _
      rw [List.append_nil]
      exact hX'
    · rw [eall]
      show ds_W (ds_va ((ds_all D ++ ds_bl O) ++ [])) (ds_vd ((ds_all D ++ ds_bl O) ++ [])) (ds_vl ((ds_all D ++ ds_bl O) ++ [])) _ _ _ _ _
      rw [List.append_nil]
      exact hW'
  unfold wpX_end
  refine br_f (by rw [e1]; decide) ?_
  refine ds_closeK hK (fun g b6 b7 hW' => ?_)
  rcases O with _ | ⟨x, O⟩
  · refine br_t (by rw [e9']; rfl) ?_
    have q0 : ds_all D ++ ds_ob [] = ds_all D := List.append_nil _
    rw [q0] at hX hW'
    refine ds_addT (x := 0) (y := 0) hX (by rw [ds_ta_len]; omega) (fun g5 b3 b4 hX' => ?_)
    refine ds_addV (x := 0) (y := 0) hW' (by omega) (fun g7 b6' b7' hW2 => fin _ _ _ _ _ _ _ _ ?_ ?_)
    · have q1 : ds_bl [] = [(0, 0, [])] := rfl
      rw [q1, ds_ta_app, ds_td_app, ds_tl_app, ds_tl_1]
      have q2 : ds_tg (0, 0, []) = [] := rfl
      rw [q2, List.append_nil]
      exact hX'
    · have q1 : ds_bl [] = [(0, 0, [])] := rfl
      rw [q1, ds_va_app, ds_vd_app, ds_vl_app, ds_va_1, ds_vd_1, ds_vl_1, List.append_nil]
      exact hW2
  · refine br_f (by rw [e9']; exact nI_ne0 (by simp) (by omega)) ?_
    have q : ds_ob (x :: O) = ds_bl (x :: O) := by
      rcases O with _ | ⟨y, O⟩ <;> rfl
    rw [q] at hX hW'
    exact fin _ _ _ _ _ _ _ _ hX hW'
end
end
section
/-! ===== the law's loop ===== -/
def ds_I (D : List ds_R) (o : Nat) (O : ds_R) (x2 x4 x6 x8 x10 : Int64) (x12 x13 : Int32) (f1 f2 f3 f4 f5 f6 f7 f8 f9 f10 f11 : Int32) (a3 a4 a5 a6 a7 a8 : Nat → Int32) : Prop :=
  x12 = nI D.length ∧ x13 = nI o ∧ (o = 1 → x10 = lN (ds_pk O)) ∧ (∀ j R, D[j]? = some R → ds_pick j x2 x4 x6 x8 = lN (ds_pk R)) ∧ ds_K D o O f1 f2 f3 f4 f5 f6 f7 f8 f9 f10 f11 a3 a4 a5 a6 a7 a8
theorem ds_Lv {post : Int32 → Prop} {R : ds_R} {g : Nat} {x : Int32} (hx : x = nI g) (h : ds_rk R) (hg : g < 2) (H : post (nI (ds_gn R g))) : wpL_values post () (lN (ds_pk R)) x := by
  subst hx
  exact ds_Lvalues h hg H
theorem ds_gn_last {O : ds_R} (h : O.length ≤ 2) : ds_gn O (O.length - 1) = ds_last O := by
  rcases O with _ | ⟨x, _ | ⟨y, _ | ⟨z, O⟩⟩⟩
  · rfl
  · rfl
  · rfl
  · simp at h
theorem ds_pick_up {j n : Nat} {a b c e z : Int64} (hj : j < 4) (hn : n < 4) : ds_pick j (if n = 0 then z else a) (if n = 1 then z else b) (if n = 2 then z else c) (if n = 3 then z else e) = if j = n then z else ds_pick j a b c e := by
  rcases j with _ | _ | _ | _ | j <;> rcases n with _ | _ | _ | _ | n <;> first | omega | simp [ds_pick]
section
variable {post : Int32 → Prop} {L : Nat} {xs : Nat → Int32} {J : Int64 → Int64 → Int64 → Int64 → Int64 → Int32 → Int32 → Int32 → Int32 → Int32 → Int32 → Int32 → Int32 → Int32 → Int32 → Int32 → Int32 → Int32 → Int32 → Int32 → Int32 → (Nat → Int32) → (Nat → Int32) → (Nat → Int32) → (Nat → Int32) → (Nat → Int32) → (Nat → Int32) → (Nat → Int32) → (Nat → Int32) → Prop} {x2 x4 x6 x8 x10 : Int64} {x12 x13 x15 x16 x17 : Int32} {kc ks : Nat} {f1 f2 f3 f4 f5 f6 f7 f8 f9 f10 f11 f12 f13 : Int32} {a1 a2 a3 a4 a5 a6 a7 a8 : Nat → Int32}
theorem ds_360 {i : Nat} {D : List ds_R} {o : Nat} {O : ds_R} (h : ds_I D o O x2 x4 x6 x8 x10 x12 x13 f1 f2 f3 f4 f5 f6 f7 f8 f9 f10 f11 a3 a4 a5 a6 a7 a8)
    (HJ : ∀ (D : List ds_R) (o : Nat) (O : ds_R) (x2 x4 x6 x8 x10 : Int64) (x12 x13 : Int32) (g1 g2 g3 g4 g5 g6 g7 g8 g9 g10 g11 g12 g13 : Int32) (b1 b2 b3 b4 b5 b6 b7 b8 : Nat → Int32), ds_I D o O x2 x4 x6 x8 x10 x12 x13 g1 g2 g3 g4 g5 g6 g7 g8 g9 g10 g11 b3 b4 b5 b6 b7 b8 → J x2 x4 x6 x8 x10 x12 x13 (nI (i + 2)) g1 g2 g3 g4 g5 g6 g7 g8 g9 g10 g11 g12 g13 b1 b2 b3 b4 b5 b6 b7 b8) :
    wL_law_360 post L xs J x2 x4 x6 x8 x10 x12 x13 (nI i) x16 kc ks f1 f2 f3 f4 f5 f6 f7 f8 f9 f10 f11 f12 f13 a1 a2 a3 a4 a5 a6 a7 a8 := by
  have hI := h
  obtain ⟨h12, h13, h10, hp, hK⟩ := h
  obtain ⟨t, ht, et⟩ := pk_andE x16 (m := 3) 2 (by decide)
  have ht' : t < 4 := ht
  have h3 := hK.2.2.2.2.2.2.2.2.2.1
  subst h12
  unfold wL_law_360
  rw [et]
  exact ds_agrees (ds_K_C hK) h3 (by omega) hp (fun x y => br_f (by decide) (nm_r (nI_add i 2) (HJ _ _ _ _ _ _ _ _ _ _ _ _ _ _ _ _ _ _ _ _ _ _ _ _ _ _ _ _ _ _ _ hI)))
theorem ds_334 {n : Nat} {x14 : Int32} {z0 : Int64} (hn : n < 4) (H : wL_law_360 post L xs J x2 x4 z0 (if n = 3 then x10 else x8) x10 (nI (n + 1)) 0 x14 x16 kc ks f1 f2 f3 f4 f5 f6 f7 f8 f9 f10 f11 f12 f13 a1 a2 a3 a4 a5 a6 a7 a8) : wL_law_334 post L xs J x2 x4 x8 x10 (nI n) x14 x16 z0 kc ks f1 f2 f3 f4 f5 f6 f7 f8 f9 f10 f11 f12 f13 a1 a2 a3 a4 a5 a6 a7 a8 := by
  refine pk_eq n 3 (fun q => nm_r (nI_1 n) ?_) (fun q => nm_r (nI_1 n) ?_)
  · rw [if_pos q] at H
    exact H
  · rw [if_neg q] at H
    exact H
theorem ds_319 {n : Nat} {x14 : Int32} {z0 : Int64} (hn : n < 4) (H : wL_law_360 post L xs J x2 z0 (if n = 2 then x10 else x6) (if n = 3 then x10 else x8) x10 (nI (n + 1)) 0 x14 x16 kc ks f1 f2 f3 f4 f5 f6 f7 f8 f9 f10 f11 f12 f13 a1 a2 a3 a4 a5 a6 a7 a8) : wL_law_319 post L xs J x2 x6 x8 x10 (nI n) x14 x16 z0 kc ks f1 f2 f3 f4 f5 f6 f7 f8 f9 f10 f11 f12 f13 a1 a2 a3 a4 a5 a6 a7 a8 := by
  refine pk_eq n 2 (fun q => ds_334 hn ?_) (fun q => ds_334 hn ?_)
  · rw [if_pos q] at H
    exact H
  · rw [if_neg q] at H
    exact H
theorem ds_305 {n : Nat} {x14 : Int32} {z0 : Int64} (hn : n < 4) (H : wL_law_360 post L xs J z0 (if n = 1 then x10 else x4) (if n = 2 then x10 else x6) (if n = 3 then x10 else x8) x10 (nI (n + 1)) 0 x14 x16 kc ks f1 f2 f3 f4 f5 f6 f7 f8 f9 f10 f11 f12 f13 a1 a2 a3 a4 a5 a6 a7 a8) : wL_law_305 post L xs J x4 x6 x8 x10 (nI n) x14 x16 z0 kc ks f1 f2 f3 f4 f5 f6 f7 f8 f9 f10 f11 f12 f13 a1 a2 a3 a4 a5 a6 a7 a8 := by
  refine pk_eq n 1 (fun q => ds_319 hn ?_) (fun q => ds_319 hn ?_)
  · rw [if_pos q] at H
    exact H
  · rw [if_neg q] at H
    exact H
theorem ds_269 {i : Nat} {D : List ds_R} {o : Nat} {O : ds_R} (h : ds_I D o O x2 x4 x6 x8 x10 x12 x13 f1 f2 f3 f4 f5 f6 f7 f8 f9 f10 f11 a3 a4 a5 a6 a7 a8)
    (HJ : ∀ (D : List ds_R) (o : Nat) (O : ds_R) (x2 x4 x6 x8 x10 : Int64) (x12 x13 : Int32) (g1 g2 g3 g4 g5 g6 g7 g8 g9 g10 g11 g12 g13 : Int32) (b1 b2 b3 b4 b5 b6 b7 b8 : Nat → Int32), ds_I D o O x2 x4 x6 x8 x10 x12 x13 g1 g2 g3 g4 g5 g6 g7 g8 g9 g10 g11 b3 b4 b5 b6 b7 b8 → J x2 x4 x6 x8 x10 x12 x13 (nI (i + 2)) g1 g2 g3 g4 g5 g6 g7 g8 g9 g10 g11 g12 g13 b1 b2 b3 b4 b5 b6 b7 b8) :
    wL_law_269 post L xs J x2 x4 x6 x8 x10 x12 x13 (nI i) x15 x16 kc ks f1 f2 f3 f4 f5 f6 f7 f8 f9 f10 f11 f12 f13 a1 a2 a3 a4 a5 a6 a7 a8 := by
  have hI := h
  obtain ⟨h12, h13, h10, hp, hK⟩ := h
  have ho : o < 2 := hK.2.2.2.2.2.1
  have hl : D.length + o ≤ 4 := hK.2.2.2.2.1
  refine br_c (fun _ => ds_360 hI HJ) (fun _ => pk_eq o 0 (fun _ => ds_360 hI HJ) (fun q => ?_) h13 rfl)
  have e1 : o = 1 := by omega
  subst e1
  subst h12
  refine ds_end hK (fun g1 g2 g3 g4 g5 g6 g7 g8 g9 g10 g11 g12 g13 b1 b2 b3 b4 b5 b6 b7 b8 hK' => br_t (nI_1 D.length).symm ?_)
  have hI' : ds_I (D ++ [O]) 0 [] (if D.length = 0 then x10 else x2) (if D.length = 1 then x10 else x4) (if D.length = 2 then x10 else x6) (if D.length = 3 then x10 else x8) x10 (nI (D.length + 1)) 0 g1 g2 g3 g4 g5 g6 g7 g8 g9 g10 g11 b3 b4 b5 b6 b7 b8 := by
    refine ⟨by rw [List.length_append]; rfl, rfl, fun q => absurd q (by decide), fun j R hj => ?_, hK'⟩
    rcases Nat.lt_trichotomy j D.length with q | q | q
    · rw [ds_pick_up (by omega) (by omega), if_neg (by omega)]
      rw [List.getElem?_append_left q] at hj
      exact hp j R hj
    · rw [ds_pick_up (by omega) (by omega), if_pos q, h10 rfl]
      subst q
      simp at hj
      rw [hj]
    · rw [List.getElem?_eq_none (by rw [List.length_append]; show D.length + 1 ≤ j; omega)] at hj
      cases hj
  have h360 : wL_law_360 post L xs J (if D.length = 0 then x10 else x2) (if D.length = 1 then x10 else x4) (if D.length = 2 then x10 else x6) (if D.length = 3 then x10 else x8) x10 (nI (D.length + 1)) 0 (nI i) x16 kc ks g1 g2 g3 g4 g5 g6 g7 g8 g9 g10 g11 g12 g13 b1 b2 b3 b4 b5 b6 b7 b8 := ds_360 hI' HJ
  refine pk_eq D.length 0 (fun q => ds_305 (by omega) ?_) (fun q => ds_305 (by omega) ?_)
  · rw [if_pos q] at h360
    exact h360
  · rw [if_neg q] at h360
    exact h360
theorem ds_167 {i : Nat} {D : List ds_R} {o : Nat} {O : ds_R} (h : ds_I D o O x2 x4 x6 x8 x10 x12 x13 f1 f2 f3 f4 f5 f6 f7 f8 f9 f10 f11 a3 a4 a5 a6 a7 a8) (h17 : o = 1 → x17 = nI O.length)
    (HJ : ∀ (D : List ds_R) (o : Nat) (O : ds_R) (x2 x4 x6 x8 x10 : Int64) (x12 x13 : Int32) (g1 g2 g3 g4 g5 g6 g7 g8 g9 g10 g11 g12 g13 : Int32) (b1 b2 b3 b4 b5 b6 b7 b8 : Nat → Int32), ds_I D o O x2 x4 x6 x8 x10 x12 x13 g1 g2 g3 g4 g5 g6 g7 g8 g9 g10 g11 b3 b4 b5 b6 b7 b8 → J x2 x4 x6 x8 x10 x12 x13 (nI (i + 2)) g1 g2 g3 g4 g5 g6 g7 g8 g9 g10 g11 g12 g13 b1 b2 b3 b4 b5 b6 b7 b8) :
    wL_law_167 post L xs J x2 x4 x6 x8 x10 x12 x13 (nI i) x15 x16 x17 kc ks f1 f2 f3 f4 f5 f6 f7 f8 f9 f10 f11 f12 f13 a1 a2 a3 a4 a5 a6 a7 a8 := by
  have hI := h
  obtain ⟨h12, h13, h10, hp, hK⟩ := h
  have ho : o < 2 := hK.2.2.2.2.2.1
  have hO : ds_rk O := hK.2.2.2.1
  have hO2 := hO.1
  refine br_c (fun _ => ds_269 hI HJ) (fun _ => pk_eq o 0 (fun _ => ds_269 hI HJ) (fun q => ?_) h13 rfl)
  have e1 : o = 1 := by omega
  subst e1
  have h17' := h17 rfl
  subst h17'
  refine pk_le O.length 0 (fun _ => ds_269 hI HJ) (fun q1 => ?_)
  have hsub : nI O.length - 1 = nI (O.length - 1) := pk_sub (b := 1) q1
  have hgl := ds_gn_last hO2
  have hgn := ds_gn_le hO (O.length - 1)
  have e10 := h10 rfl
  have h269 : wL_law_269 post L xs J x2 x4 x6 x8 x10 x12 x13 (nI i) x15 x16 kc ks f1 f2 f3 f4 f5 f6 f7 f8 f9 f10 f11 f12 f13 a1 a2 a3 a4 a5 a6 a7 a8 := ds_269 hI HJ
  subst e10
  refine ds_Lv hsub hO (by omega) (pk_le 2 (ds_gn O (O.length - 1)) (fun _ => h269) (fun q2 => ?_))
  refine ds_Lv hsub hO (by omega) ⟨by decide, ?_⟩
  obtain ⟨w, hw, ew⟩ := pk_andE x16 (m := 255) 8 (by decide)
  have hw' : w < 256 := hw
  have e19 : 1 + ((x16 &&& 255) - (x16 &&& 255) / 15 * 15) = nI (1 + w % 15) := by
    rw [ew]
    show nI 1 + (nI w - nI w / nI 15 * nI 15) = _
    rw [pk_rem (by omega) (by decide) (by decide), nI_add]
  refine nm_r e19 ?_
  have hv : 1 + w % 15 < 16 := by omega
  refine ds_value hK q1 (by omega) hv (fun g1 g2 g3 g4 g5 g6 g7 g8 g9 g10 g11 g12 g13 b1 b2 b3 b4 b5 b6 b7 b8 hK' => br_t ?_ (nm_r (ds_now_v hO q1 rfl q2 hv) ?_))
  · rw [hgl]
    exact (nI_1 _).symm
  · exact ds_360 ⟨h12, h13, fun _ => rfl, hp, hK'⟩ HJ
theorem ds_98 {i : Nat} {D : List ds_R} {o : Nat} {O : ds_R} (h : ds_I D o O x2 x4 x6 x8 x10 x12 x13 f1 f2 f3 f4 f5 f6 f7 f8 f9 f10 f11 a3 a4 a5 a6 a7 a8) (h17 : o = 1 → x17 = nI O.length)
    (HJ : ∀ (D : List ds_R) (o : Nat) (O : ds_R) (x2 x4 x6 x8 x10 : Int64) (x12 x13 : Int32) (g1 g2 g3 g4 g5 g6 g7 g8 g9 g10 g11 g12 g13 : Int32) (b1 b2 b3 b4 b5 b6 b7 b8 : Nat → Int32), ds_I D o O x2 x4 x6 x8 x10 x12 x13 g1 g2 g3 g4 g5 g6 g7 g8 g9 g10 g11 b3 b4 b5 b6 b7 b8 → J x2 x4 x6 x8 x10 x12 x13 (nI (i + 2)) g1 g2 g3 g4 g5 g6 g7 g8 g9 g10 g11 g12 g13 b1 b2 b3 b4 b5 b6 b7 b8) :
    wL_law_98 post L xs J x2 x4 x6 x8 x10 x12 x13 (nI i) x15 x16 x17 kc ks f1 f2 f3 f4 f5 f6 f7 f8 f9 f10 f11 f12 f13 a1 a2 a3 a4 a5 a6 a7 a8 := by
  have hI := h
  obtain ⟨h12, h13, h10, hp, hK⟩ := h
  have ho : o < 2 := hK.2.2.2.2.2.1
  have hO : ds_rk O := hK.2.2.2.1
  have hO2 := hO.1
  refine br_c (fun _ => ds_167 hI h17 HJ) (fun _ => pk_eq o 0 (fun _ => ds_167 hI h17 HJ) (fun q => ?_) h13 rfl)
  have e1 : o = 1 := by omega
  subst e1
  have h167 : wL_law_167 post L xs J x2 x4 x6 x8 x10 x12 x13 (nI i) x15 x16 x17 kc ks f1 f2 f3 f4 f5 f6 f7 f8 f9 f10 f11 f12 f13 a1 a2 a3 a4 a5 a6 a7 a8 := ds_167 hI h17 HJ
  have h17' := h17 rfl
  subst h17'
  refine pk_le 2 O.length (fun _ => h167) (fun q1 => ?_)
  obtain ⟨t, ht, et⟩ := pk_andE x16 (m := 3) 2 (by decide)
  have ht' : t < 4 := ht
  have e10 := h10 rfl
  subst e10
  have k132 : ∀ p : Int32, p = nI (if t = 0 then 0 else 1) → wL_law_132 post L xs J x2 x4 x6 x8 (lN (ds_pk O)) x12 x13 (nI i) x16 (nI O.length) (nI t) p kc ks f1 f2 f3 f4 f5 f6 f7 f8 f9 f10 f11 f12 f13 a1 a2 a3 a4 a5 a6 a7 a8 := by
    intro p hpp
    unfold wL_law_132
    refine ds_group hK q1 ht' hpp (fun g1 g2 g3 g4 g5 g6 g7 g8 g9 g10 g11 g12 g13 b1 b2 b3 b4 b5 b6 b7 b8 hK' => br_t (nI_1 _).symm (nm_r (ds_now_g hO q1 ht') ?_))
    exact ds_360 ⟨h12, h13, fun _ => rfl, hp, hK'⟩ HJ
  refine nm_r et (pk_eq t 0 (fun q2 => k132 0 ?_) (fun q2 => k132 1 ?_))
  · rw [if_pos q2]
    rfl
  · rw [if_neg q2]
    rfl
end
theorem ds_loop {post : Int32 → Prop} {L : Nat} {xs : Nat → Int32} {kc ks : Nat} (hL : L ≤ 260) (H : post 1) : ∀ (n i : Nat) (D : List ds_R) (o : Nat) (O : ds_R) (x2 x4 x6 x8 x10 : Int64) (x12 x13 : Int32) (g1 g2 g3 g4 g5 g6 g7 g8 g9 g10 g11 g12 g13 : Int32) (b1 b2 b3 b4 b5 b6 b7 b8 : Nat → Int32), i ≤ L → L < i + n → ds_I D o O x2 x4 x6 x8 x10 x12 x13 g1 g2 g3 g4 g5 g6 g7 g8 g9 g10 g11 b3 b4 b5 b6 b7 b8 → wL_law_31 post L xs kc ks n x2 x4 x6 x8 x10 x12 x13 (nI i) g1 g2 g3 g4 g5 g6 g7 g8 g9 g10 g11 g12 g13 b1 b2 b3 b4 b5 b6 b7 b8 := by
  intro n
  induction n with
  | zero =>
    intro i D o O x2 x4 x6 x8 x10 x12 x13 g1 g2 g3 g4 g5 g6 g7 g8 g9 g10 g11 g12 g13 b1 b2 b3 b4 b5 b6 b7 b8 h1 h2 hI
    omega
  | succ n ih =>
    intro i D o O x2 x4 x6 x8 x10 x12 x13 g1 g2 g3 g4 g5 g6 g7 g8 g9 g10 g11 g12 g13 b1 b2 b3 b4 b5 b6 b7 b8 h1 h2 hI
    refine pk_lt L (i + 2) (fun _ => H) (fun q => ?_) rfl (nI_add i 2)
    have HJ : ∀ (D : List ds_R) (o : Nat) (O : ds_R) (x2 x4 x6 x8 x10 : Int64) (x12 x13 : Int32) (g1 g2 g3 g4 g5 g6 g7 g8 g9 g10 g11 g12 g13 : Int32) (b1 b2 b3 b4 b5 b6 b7 b8 : Nat → Int32), ds_I D o O x2 x4 x6 x8 x10 x12 x13 g1 g2 g3 g4 g5 g6 g7 g8 g9 g10 g11 b3 b4 b5 b6 b7 b8 → wL_law_31 post L xs kc ks n x2 x4 x6 x8 x10 x12 x13 (nI (i + 2)) g1 g2 g3 g4 g5 g6 g7 g8 g9 g10 g11 g12 g13 b1 b2 b3 b4 b5 b6 b7 b8 :=
      fun D o O x2 x4 x6 x8 x10 x12 x13 g1 g2 g3 g4 g5 g6 g7 g8 g9 g10 g11 g12 g13 b1 b2 b3 b4 b5 b6 b7 b8 hI => ih (i + 2) D o O x2 x4 x6 x8 x10 x12 x13 g1 g2 g3 g4 g5 g6 g7 g8 g9 g10 g11 g12 g13 b1 b2 b3 b4 b5 b6 b7 b8 q (by omega) hI
    refine ⟨pk_in i L (by omega), nm_e ⟨pk_in (i + 1) L (by omega) (nI_1 i), nm_e ?_⟩⟩
    have hI0 := hI
    obtain ⟨h12, h13, h10, hp, hK⟩ := hI
    have ho : o < 2 := hK.2.2.2.2.2.1
    have hl : D.length + o ≤ 4 := hK.2.2.2.2.1
    have hO : ds_rk O := hK.2.2.2.1
    by_cases e1 : o = 1
    · have e10 := h10 e1
      subst e10
      refine ds_Lgroups hO (pk_eq o 0 (fun q2 => absurd q2 (by omega)) (fun _ => ds_98 hI0 (fun _ => rfl) HJ) h13 rfl)
    · have e0 : o = 0 := by omega
      subst e0
      have eO : O = [] := hK.2.2.2.2.2.2.1 rfl
      subst eO
      show wpL_groups _ () x10
      unfold wpL_groups
      refine br_t h13 (pk_le 4 D.length (fun _ => ds_98 hI0 (fun q2 => absurd q2 (by decide)) HJ) (fun q2 => ?_) rfl h12)
      refine ds_begin hK (by omega) (fun g1 g2 g3 g4 g5 g6 g7 g8 g9 g10 g11 g12 g13 b1 b2 b3 b4 b5 b6 b7 b8 hK' => br_t h12.symm ?_)
      exact ds_360 (o := 1) (O := []) ⟨h12, rfl, fun _ => rfl, hp, hK'⟩ HJ
theorem i_vc (xs : Nat → Int32) (L : Nat) (hL : L ≤ 260) : wpL_law (fun r => r = 1) L xs := by
  refine ⟨8, 452, by decide, by decide, by decide, by decide, by decide, by decide, by decide, by decide, by decide, by decide, by decide, by decide, by decide, by decide, by decide, by decide, by decide, by decide, L + 1, ?_⟩
  have h := ds_loop (post := fun r => r = 1) (L := L) (xs := xs) (kc := 1 + 8) (ks := 21 + 452) hL rfl (L + 1) 0 [] 0 [] 0 0 0 0 0 (nI 0) (nI 0) (nI 0) (nI 0) (nI 0) (nI 0) (nI 0) (nI 0) (nI 0) (nI 0) (nI 0) (nI 0) (nI 0) (nI 0) (nI 0) (fun _ => 0) (fun _ => 0) (fun _ => 0) (fun _ => 0) (fun _ => 0) (fun _ => 0) (fun _ => 0) (fun _ => 0) (by omega) (by omega) ?_
  · exact h
  · refine ⟨rfl, rfl, fun q => absurd q (by decide), fun j R hj => absurd hj (by simp), ⟨rfl, rfl, rfl, ds_ok_0 _, ds_ok_0 _, ds_ok_0 _⟩, ⟨rfl, rfl, rfl, ds_ok_0 _, ds_ok_0 _, ds_ok_0 _⟩, fun R hR => absurd hR (by simp), ⟨by decide, fun g hg => absurd hg (by simp)⟩, by decide, by decide, fun _ => rfl, rfl, rfl, rfl, rfl, fun q => absurd q (by decide), fun q => absurd q (by decide), 0, rfl, by decide⟩
end
