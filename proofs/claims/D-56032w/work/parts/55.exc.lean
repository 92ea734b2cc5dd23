set_option maxRecDepth 100000
/-! ===== the sites of throws ===== -/
theorem exTrailGuide_1_3 : zEx "TrailGuide" 1 3 "java/lang/IllegalArgumentException" ["java/lang/RuntimeException", "java/lang/Exception"] := by
  refine ⟨by decide, by decide, q1045, q107, by decide, fun w hw => ?_⟩
  obtain ⟨hw1, hw2⟩ := List.mem_filter.mp hw
  simp only [Bundle.ownAtoms0, Bundle.throwableAtoms, Bundle.chain0Atoms, Bundle.passAtoms, List.cons_append, List.nil_append, List.append_assoc, List.mem_cons, List.not_mem_nil, or_false] at hw1
  rcases hw1 with rfl | rfl | rfl | rfl | rfl | rfl | rfl | rfl | rfl | rfl | rfl | rfl | rfl | rfl | rfl | rfl | rfl | rfl | rfl | rfl | rfl | rfl | rfl | rfl | rfl | rfl | rfl | rfl | rfl | rfl | rfl | rfl | rfl | rfl | rfl | rfl | rfl | rfl | rfl | rfl | rfl | rfl | rfl | rfl | rfl | rfl | rfl | rfl | rfl | rfl | rfl | rfl | rfl
  · exact ⟨(lw_all_tbl q104), rfl, rfl⟩
  · exact ⟨(lw_all_tbl q681), rfl, rfl⟩
  · exact ⟨(lw_all_tbl q690), rfl, rfl⟩
  · exact ⟨(lw_all_tbl q700), rfl, rfl⟩
  · exact ⟨(lw_all_tbl q703), rfl, rfl⟩
  · exact ⟨(lw_all_tbl q705), rfl, rfl⟩
  · exact ⟨(lw_all_tbl q682), rfl, rfl⟩
  · exact ⟨(lw_all_tbl q683), rfl, rfl⟩
  · exact ⟨(lw_all_tbl q144), rfl, rfl⟩
  · exact ⟨(lw_all_tbl q145), rfl, rfl⟩
  · exact ⟨(lw_all_tbl q684), rfl, rfl⟩
  · exact ⟨(lw_all_tbl q689), rfl, rfl⟩
  · exact ⟨(lw_all_tbl q701), rfl, rfl⟩
  · exact ⟨(lw_all_tbl q726), rfl, rfl⟩
  · exact ⟨(lw_all_tbl q671), rfl, rfl⟩
  · exact ⟨(lw_all_tbl q727), rfl, rfl⟩
  · exact ⟨(lw_all_tbl q673), rfl, rfl⟩
  · exact ⟨(lw_all_tbl q728), rfl, rfl⟩
  · exact ⟨(lw_all_tbl q675), rfl, rfl⟩
  · exact ⟨(lw_all_tbl q685), rfl, rfl⟩
  · exact absurd hw2 (by decide)
  · exact ⟨(lw_all_tbl q687), rfl, rfl⟩
  · exact absurd hw2 (by decide)
  · exact ⟨(lw_all_tbl q677), rfl, rfl⟩
  · exact ⟨(lw_all_tbl q1047), rfl, rfl⟩
  · exact ⟨(lw_all_tbl q1048), rfl, rfl⟩
  · exact ⟨(lw_all_tbl q1049), rfl, rfl⟩
  · exact ⟨(lw_all_tbl q1050), rfl, rfl⟩
  · exact ⟨q662, rfl, rfl⟩
  · exact ⟨(lw_all_tbl q1050), rfl, rfl⟩
  · exact ⟨(lw_all_tbl q1051), rfl, rfl⟩
  · exact ⟨(lw_all_tbl q1052), rfl, rfl⟩
  · exact ⟨(lw_all_tbl q1053), rfl, rfl⟩
  · exact ⟨q664, rfl, rfl⟩
  · exact ⟨(lw_all_tbl q1053), rfl, rfl⟩
  · exact ⟨(lw_all_tbl q1054), rfl, rfl⟩
  · exact ⟨(lw_all_tbl q1055), rfl, rfl⟩
  · exact ⟨(lw_all_tbl q682), rfl, rfl⟩
  · exact ⟨q666, rfl, rfl⟩
  · exact ⟨(lw_all_tbl q1046), rfl, rfl⟩
  · exact ⟨(lw_all_tbl q660), rfl, rfl⟩
  · exact ⟨q661, rfl, rfl⟩
  · exact ⟨(lw_all_tbl q668), rfl, rfl⟩
  · exact ⟨(lw_all_tbl q669), rfl, rfl⟩
  · exact ⟨(lw_all_tbl q670), rfl, rfl⟩
  · exact ⟨(lw_all_tbl q672), rfl, rfl⟩
  · exact ⟨(lw_all_tbl q674), rfl, rfl⟩
  · exact ⟨(lw_all_tbl q676), rfl, rfl⟩
  · exact absurd hw2 (by decide)
  · exact absurd hw2 (by decide)
  · exact ⟨(lw_all_tbl q680), rfl, rfl⟩
  · exact ⟨(lw_all_tbl q679), rfl, rfl⟩
  · exact ⟨(lw_all_tbl q678), rfl, rfl⟩
theorem exTrailGuide_7_9 : zEx "TrailGuide" 7 9 "java/lang/IllegalStateException" ["java/lang/RuntimeException", "java/lang/Exception"] := by
  refine ⟨by decide, by decide, q1060, q108, by decide, fun w hw => ?_⟩
  obtain ⟨hw1, hw2⟩ := List.mem_filter.mp hw
  simp only [Bundle.ownAtoms0, Bundle.throwableAtoms, Bundle.chain0Atoms, Bundle.passAtoms, List.cons_append, List.nil_append, List.append_assoc, List.mem_cons, List.not_mem_nil, or_false] at hw1
  rcases hw1 with rfl | rfl | rfl | rfl | rfl | rfl | rfl | rfl | rfl | rfl | rfl | rfl | rfl | rfl | rfl | rfl | rfl | rfl | rfl | rfl | rfl | rfl | rfl | rfl | rfl | rfl | rfl | rfl | rfl | rfl | rfl | rfl | rfl | rfl | rfl | rfl | rfl | rfl | rfl | rfl | rfl | rfl | rfl | rfl | rfl | rfl | rfl | rfl | rfl | rfl | rfl | rfl | rfl
  · exact ⟨(lw_all_tbl q104), rfl, rfl⟩
  · exact ⟨(lw_all_tbl q681), rfl, rfl⟩
  · exact ⟨(lw_all_tbl q690), rfl, rfl⟩
  · exact ⟨(lw_all_tbl q700), rfl, rfl⟩
  · exact ⟨(lw_all_tbl q703), rfl, rfl⟩
  · exact ⟨(lw_all_tbl q705), rfl, rfl⟩
  · exact ⟨(lw_all_tbl q682), rfl, rfl⟩
  · exact ⟨(lw_all_tbl q683), rfl, rfl⟩
  · exact ⟨(lw_all_tbl q144), rfl, rfl⟩
  · exact ⟨(lw_all_tbl q145), rfl, rfl⟩
  · exact ⟨(lw_all_tbl q684), rfl, rfl⟩
  · exact ⟨(lw_all_tbl q689), rfl, rfl⟩
  · exact ⟨(lw_all_tbl q701), rfl, rfl⟩
  · exact ⟨(lw_all_tbl q726), rfl, rfl⟩
  · exact ⟨(lw_all_tbl q671), rfl, rfl⟩
  · exact ⟨(lw_all_tbl q727), rfl, rfl⟩
  · exact ⟨(lw_all_tbl q673), rfl, rfl⟩
  · exact ⟨(lw_all_tbl q728), rfl, rfl⟩
  · exact ⟨(lw_all_tbl q675), rfl, rfl⟩
  · exact ⟨(lw_all_tbl q685), rfl, rfl⟩
  · exact absurd hw2 (by decide)
  · exact ⟨(lw_all_tbl q687), rfl, rfl⟩
  · exact absurd hw2 (by decide)
  · exact ⟨(lw_all_tbl q677), rfl, rfl⟩
  · exact ⟨(lw_all_tbl q1070), rfl, rfl⟩
  · exact ⟨(lw_all_tbl q1071), rfl, rfl⟩
  · exact ⟨(lw_all_tbl q1072), rfl, rfl⟩
  · exact ⟨(lw_all_tbl q1050), rfl, rfl⟩
  · exact ⟨q662, rfl, rfl⟩
  · exact ⟨(lw_all_tbl q1050), rfl, rfl⟩
  · exact ⟨(lw_all_tbl q1051), rfl, rfl⟩
  · exact ⟨(lw_all_tbl q1052), rfl, rfl⟩
  · exact ⟨(lw_all_tbl q1053), rfl, rfl⟩
  · exact ⟨q664, rfl, rfl⟩
  · exact ⟨(lw_all_tbl q1053), rfl, rfl⟩
  · exact ⟨(lw_all_tbl q1054), rfl, rfl⟩
  · exact ⟨(lw_all_tbl q1055), rfl, rfl⟩
  · exact ⟨(lw_all_tbl q682), rfl, rfl⟩
  · exact ⟨q666, rfl, rfl⟩
  · exact ⟨(lw_all_tbl q1069), rfl, rfl⟩
  · exact ⟨(lw_all_tbl q1061), rfl, rfl⟩
  · exact ⟨q1062, rfl, rfl⟩
  · exact ⟨(lw_all_tbl q1063), rfl, rfl⟩
  · exact ⟨(lw_all_tbl q695), rfl, rfl⟩
  · exact ⟨(lw_all_tbl q1064), rfl, rfl⟩
  · exact ⟨(lw_all_tbl q1065), rfl, rfl⟩
  · exact ⟨(lw_all_tbl q1066), rfl, rfl⟩
  · exact ⟨(lw_all_tbl q1067), rfl, rfl⟩
  · exact absurd hw2 (by decide)
  · exact absurd hw2 (by decide)
  · exact ⟨(lw_all_tbl q680), rfl, rfl⟩
  · exact ⟨(lw_all_tbl q679), rfl, rfl⟩
  · exact ⟨(lw_all_tbl q1068), rfl, rfl⟩
theorem exTrailGuide_16_18 : zEx "TrailGuide" 16 18 "java/lang/IndexOutOfBoundsException" ["java/lang/RuntimeException", "java/lang/Exception"] := by
  refine ⟨by decide, by decide, q1193, q121, by decide, fun w hw => ?_⟩
  obtain ⟨hw1, hw2⟩ := List.mem_filter.mp hw
  simp only [Bundle.ownAtoms0, Bundle.throwableAtoms, Bundle.chain0Atoms, Bundle.passAtoms, List.cons_append, List.nil_append, List.append_assoc, List.mem_cons, List.not_mem_nil, or_false] at hw1
  rcases hw1 with rfl | rfl | rfl | rfl | rfl | rfl | rfl | rfl | rfl | rfl | rfl | rfl | rfl | rfl | rfl | rfl | rfl | rfl | rfl | rfl | rfl | rfl | rfl | rfl | rfl | rfl | rfl | rfl | rfl | rfl | rfl | rfl | rfl | rfl | rfl | rfl | rfl | rfl | rfl | rfl | rfl | rfl | rfl | rfl | rfl | rfl | rfl | rfl | rfl | rfl | rfl | rfl | rfl
  · exact ⟨(lw_all_tbl q104), rfl, rfl⟩
  · exact ⟨(lw_all_tbl q681), rfl, rfl⟩
  · exact ⟨(lw_all_tbl q690), rfl, rfl⟩
  · exact ⟨(lw_all_tbl q700), rfl, rfl⟩
  · exact ⟨(lw_all_tbl q703), rfl, rfl⟩
  · exact ⟨(lw_all_tbl q705), rfl, rfl⟩
  · exact ⟨(lw_all_tbl q682), rfl, rfl⟩
  · exact ⟨(lw_all_tbl q683), rfl, rfl⟩
  · exact ⟨(lw_all_tbl q144), rfl, rfl⟩
  · exact ⟨(lw_all_tbl q145), rfl, rfl⟩
  · exact ⟨(lw_all_tbl q684), rfl, rfl⟩
  · exact ⟨(lw_all_tbl q689), rfl, rfl⟩
  · exact ⟨(lw_all_tbl q701), rfl, rfl⟩
  · exact ⟨(lw_all_tbl q726), rfl, rfl⟩
  · exact ⟨(lw_all_tbl q671), rfl, rfl⟩
  · exact ⟨(lw_all_tbl q727), rfl, rfl⟩
  · exact ⟨(lw_all_tbl q673), rfl, rfl⟩
  · exact ⟨(lw_all_tbl q728), rfl, rfl⟩
  · exact ⟨(lw_all_tbl q675), rfl, rfl⟩
  · exact ⟨(lw_all_tbl q685), rfl, rfl⟩
  · exact absurd hw2 (by decide)
  · exact ⟨(lw_all_tbl q687), rfl, rfl⟩
  · exact absurd hw2 (by decide)
  · exact ⟨(lw_all_tbl q677), rfl, rfl⟩
  · exact ⟨(lw_all_tbl q1203), rfl, rfl⟩
  · exact ⟨(lw_all_tbl q1204), rfl, rfl⟩
  · exact ⟨(lw_all_tbl q1205), rfl, rfl⟩
  · exact ⟨(lw_all_tbl q1050), rfl, rfl⟩
  · exact ⟨q662, rfl, rfl⟩
  · exact ⟨(lw_all_tbl q1050), rfl, rfl⟩
  · exact ⟨(lw_all_tbl q1051), rfl, rfl⟩
  · exact ⟨(lw_all_tbl q1052), rfl, rfl⟩
  · exact ⟨(lw_all_tbl q1053), rfl, rfl⟩
  · exact ⟨q664, rfl, rfl⟩
  · exact ⟨(lw_all_tbl q1053), rfl, rfl⟩
  · exact ⟨(lw_all_tbl q1054), rfl, rfl⟩
  · exact ⟨(lw_all_tbl q1055), rfl, rfl⟩
  · exact ⟨(lw_all_tbl q682), rfl, rfl⟩
  · exact ⟨q666, rfl, rfl⟩
  · exact ⟨(lw_all_tbl q1202), rfl, rfl⟩
  · exact ⟨(lw_all_tbl q1194), rfl, rfl⟩
  · exact ⟨q1195, rfl, rfl⟩
  · exact ⟨(lw_all_tbl q1196), rfl, rfl⟩
  · exact ⟨(lw_all_tbl q696), rfl, rfl⟩
  · exact ⟨(lw_all_tbl q1197), rfl, rfl⟩
  · exact ⟨(lw_all_tbl q1198), rfl, rfl⟩
  · exact ⟨(lw_all_tbl q1199), rfl, rfl⟩
  · exact ⟨(lw_all_tbl q1200), rfl, rfl⟩
  · exact absurd hw2 (by decide)
  · exact absurd hw2 (by decide)
  · exact ⟨(lw_all_tbl q680), rfl, rfl⟩
  · exact ⟨(lw_all_tbl q679), rfl, rfl⟩
  · exact ⟨(lw_all_tbl q1201), rfl, rfl⟩
theorem exTrailGuide_19_21 : zEx "TrailGuide" 19 21 "java/util/NoSuchElementException" ["java/lang/RuntimeException", "java/lang/Exception"] := by
  refine ⟨by decide, by decide, q1230, q120, by decide, fun w hw => ?_⟩
  obtain ⟨hw1, hw2⟩ := List.mem_filter.mp hw
  simp only [Bundle.ownAtoms0, Bundle.throwableAtoms, Bundle.chain0Atoms, Bundle.passAtoms, List.cons_append, List.nil_append, List.append_assoc, List.mem_cons, List.not_mem_nil, or_false] at hw1
  rcases hw1 with rfl | rfl | rfl | rfl | rfl | rfl | rfl | rfl | rfl | rfl | rfl | rfl | rfl | rfl | rfl | rfl | rfl | rfl | rfl | rfl | rfl | rfl | rfl | rfl | rfl | rfl | rfl | rfl | rfl | rfl | rfl | rfl | rfl | rfl | rfl | rfl | rfl | rfl | rfl | rfl | rfl | rfl | rfl | rfl | rfl | rfl | rfl | rfl | rfl | rfl | rfl | rfl | rfl
  · exact ⟨(lw_all_tbl q104), rfl, rfl⟩
  · exact ⟨(lw_all_tbl q681), rfl, rfl⟩
  · exact ⟨(lw_all_tbl q690), rfl, rfl⟩
  · exact ⟨(lw_all_tbl q700), rfl, rfl⟩
  · exact ⟨(lw_all_tbl q703), rfl, rfl⟩
  · exact ⟨(lw_all_tbl q705), rfl, rfl⟩
  · exact ⟨(lw_all_tbl q682), rfl, rfl⟩
  · exact ⟨(lw_all_tbl q683), rfl, rfl⟩
  · exact ⟨(lw_all_tbl q144), rfl, rfl⟩
  · exact ⟨(lw_all_tbl q145), rfl, rfl⟩
  · exact ⟨(lw_all_tbl q684), rfl, rfl⟩
  · exact ⟨(lw_all_tbl q689), rfl, rfl⟩
  · exact ⟨(lw_all_tbl q701), rfl, rfl⟩
  · exact ⟨(lw_all_tbl q726), rfl, rfl⟩
  · exact ⟨(lw_all_tbl q671), rfl, rfl⟩
  · exact ⟨(lw_all_tbl q727), rfl, rfl⟩
  · exact ⟨(lw_all_tbl q673), rfl, rfl⟩
  · exact ⟨(lw_all_tbl q728), rfl, rfl⟩
  · exact ⟨(lw_all_tbl q675), rfl, rfl⟩
  · exact ⟨(lw_all_tbl q685), rfl, rfl⟩
  · exact absurd hw2 (by decide)
  · exact ⟨(lw_all_tbl q687), rfl, rfl⟩
  · exact absurd hw2 (by decide)
  · exact ⟨(lw_all_tbl q677), rfl, rfl⟩
  · exact ⟨(lw_all_tbl q1144), rfl, rfl⟩
  · exact ⟨(lw_all_tbl q1145), rfl, rfl⟩
  · exact ⟨(lw_all_tbl q1146), rfl, rfl⟩
  · exact ⟨(lw_all_tbl q1050), rfl, rfl⟩
  · exact ⟨q662, rfl, rfl⟩
  · exact ⟨(lw_all_tbl q1050), rfl, rfl⟩
  · exact ⟨(lw_all_tbl q1051), rfl, rfl⟩
  · exact ⟨(lw_all_tbl q1052), rfl, rfl⟩
  · exact ⟨(lw_all_tbl q1053), rfl, rfl⟩
  · exact ⟨q664, rfl, rfl⟩
  · exact ⟨(lw_all_tbl q1053), rfl, rfl⟩
  · exact ⟨(lw_all_tbl q1054), rfl, rfl⟩
  · exact ⟨(lw_all_tbl q1055), rfl, rfl⟩
  · exact ⟨(lw_all_tbl q682), rfl, rfl⟩
  · exact ⟨q666, rfl, rfl⟩
  · exact ⟨(lw_all_tbl q1231), rfl, rfl⟩
  · exact ⟨(lw_all_tbl q1135), rfl, rfl⟩
  · exact ⟨q1136, rfl, rfl⟩
  · exact ⟨(lw_all_tbl q1137), rfl, rfl⟩
  · exact ⟨(lw_all_tbl q699), rfl, rfl⟩
  · exact ⟨(lw_all_tbl q1138), rfl, rfl⟩
  · exact ⟨(lw_all_tbl q1139), rfl, rfl⟩
  · exact ⟨(lw_all_tbl q1140), rfl, rfl⟩
  · exact ⟨(lw_all_tbl q1141), rfl, rfl⟩
  · exact absurd hw2 (by decide)
  · exact absurd hw2 (by decide)
  · exact ⟨(lw_all_tbl q680), rfl, rfl⟩
  · exact ⟨(lw_all_tbl q679), rfl, rfl⟩
  · exact ⟨(lw_all_tbl q1142), rfl, rfl⟩
theorem exTrailGuide_22_24 : zEx "TrailGuide" 22 24 "java/lang/UnsupportedOperationException" ["java/lang/RuntimeException", "java/lang/Exception"] := by
  refine ⟨by decide, by decide, q1308, q125, by decide, fun w hw => ?_⟩
  obtain ⟨hw1, hw2⟩ := List.mem_filter.mp hw
  simp only [Bundle.ownAtoms0, Bundle.throwableAtoms, Bundle.chain0Atoms, Bundle.passAtoms, List.cons_append, List.nil_append, List.append_assoc, List.mem_cons, List.not_mem_nil, or_false] at hw1
  rcases hw1 with rfl | rfl | rfl | rfl | rfl | rfl | rfl | rfl | rfl | rfl | rfl | rfl | rfl | rfl | rfl | rfl | rfl | rfl | rfl | rfl | rfl | rfl | rfl | rfl | rfl | rfl | rfl | rfl | rfl | rfl | rfl | rfl | rfl | rfl | rfl | rfl | rfl | rfl | rfl | rfl | rfl | rfl | rfl | rfl | rfl | rfl | rfl | rfl | rfl | rfl | rfl | rfl | rfl
  · exact ⟨(lw_all_tbl q104), rfl, rfl⟩
  · exact ⟨(lw_all_tbl q681), rfl, rfl⟩
  · exact ⟨(lw_all_tbl q690), rfl, rfl⟩
  · exact ⟨(lw_all_tbl q700), rfl, rfl⟩
  · exact ⟨(lw_all_tbl q703), rfl, rfl⟩
  · exact ⟨(lw_all_tbl q705), rfl, rfl⟩
  · exact ⟨(lw_all_tbl q682), rfl, rfl⟩
  · exact ⟨(lw_all_tbl q683), rfl, rfl⟩
  · exact ⟨(lw_all_tbl q144), rfl, rfl⟩
  · exact ⟨(lw_all_tbl q145), rfl, rfl⟩
  · exact ⟨(lw_all_tbl q684), rfl, rfl⟩
  · exact ⟨(lw_all_tbl q689), rfl, rfl⟩
  · exact ⟨(lw_all_tbl q701), rfl, rfl⟩
  · exact ⟨(lw_all_tbl q726), rfl, rfl⟩
  · exact ⟨(lw_all_tbl q671), rfl, rfl⟩
  · exact ⟨(lw_all_tbl q727), rfl, rfl⟩
  · exact ⟨(lw_all_tbl q673), rfl, rfl⟩
  · exact ⟨(lw_all_tbl q728), rfl, rfl⟩
  · exact ⟨(lw_all_tbl q675), rfl, rfl⟩
  · exact ⟨(lw_all_tbl q685), rfl, rfl⟩
  · exact absurd hw2 (by decide)
  · exact ⟨(lw_all_tbl q687), rfl, rfl⟩
  · exact absurd hw2 (by decide)
  · exact ⟨(lw_all_tbl q677), rfl, rfl⟩
  · exact ⟨(lw_all_tbl q1318), rfl, rfl⟩
  · exact ⟨(lw_all_tbl q1319), rfl, rfl⟩
  · exact ⟨(lw_all_tbl q1320), rfl, rfl⟩
  · exact ⟨(lw_all_tbl q1050), rfl, rfl⟩
  · exact ⟨q662, rfl, rfl⟩
  · exact ⟨(lw_all_tbl q1050), rfl, rfl⟩
  · exact ⟨(lw_all_tbl q1051), rfl, rfl⟩
  · exact ⟨(lw_all_tbl q1052), rfl, rfl⟩
  · exact ⟨(lw_all_tbl q1053), rfl, rfl⟩
  · exact ⟨q664, rfl, rfl⟩
  · exact ⟨(lw_all_tbl q1053), rfl, rfl⟩
  · exact ⟨(lw_all_tbl q1054), rfl, rfl⟩
  · exact ⟨(lw_all_tbl q1055), rfl, rfl⟩
  · exact ⟨(lw_all_tbl q682), rfl, rfl⟩
  · exact ⟨q666, rfl, rfl⟩
  · exact ⟨(lw_all_tbl q1317), rfl, rfl⟩
  · exact ⟨(lw_all_tbl q1309), rfl, rfl⟩
  · exact ⟨q1310, rfl, rfl⟩
  · exact ⟨(lw_all_tbl q1311), rfl, rfl⟩
  · exact ⟨(lw_all_tbl q698), rfl, rfl⟩
  · exact ⟨(lw_all_tbl q1312), rfl, rfl⟩
  · exact ⟨(lw_all_tbl q1313), rfl, rfl⟩
  · exact ⟨(lw_all_tbl q1314), rfl, rfl⟩
  · exact ⟨(lw_all_tbl q1315), rfl, rfl⟩
  · exact absurd hw2 (by decide)
  · exact absurd hw2 (by decide)
  · exact ⟨(lw_all_tbl q680), rfl, rfl⟩
  · exact ⟨(lw_all_tbl q679), rfl, rfl⟩
  · exact ⟨(lw_all_tbl q1316), rfl, rfl⟩
theorem exTrailGuide_279_281 : zEx "TrailGuide" 279 281 "java/lang/ArithmeticException" ["java/lang/RuntimeException", "java/lang/Exception"] := by
  refine ⟨by decide, by decide, q1710, q131, by decide, fun w hw => ?_⟩
  obtain ⟨hw1, hw2⟩ := List.mem_filter.mp hw
  simp only [Bundle.ownAtoms0, Bundle.throwableAtoms, Bundle.chain0Atoms, Bundle.passAtoms, List.cons_append, List.nil_append, List.append_assoc, List.mem_cons, List.not_mem_nil, or_false] at hw1
  rcases hw1 with rfl | rfl | rfl | rfl | rfl | rfl | rfl | rfl | rfl | rfl | rfl | rfl | rfl | rfl | rfl | rfl | rfl | rfl | rfl | rfl | rfl | rfl | rfl | rfl | rfl | rfl | rfl | rfl | rfl | rfl | rfl | rfl | rfl | rfl | rfl | rfl | rfl | rfl | rfl | rfl | rfl | rfl | rfl | rfl | rfl | rfl | rfl | rfl | rfl | rfl | rfl | rfl | rfl
  · exact ⟨(lw_all_tbl q104), rfl, rfl⟩
  · exact ⟨(lw_all_tbl q681), rfl, rfl⟩
  · exact ⟨(lw_all_tbl q690), rfl, rfl⟩
  · exact ⟨(lw_all_tbl q700), rfl, rfl⟩
  · exact ⟨(lw_all_tbl q703), rfl, rfl⟩
  · exact ⟨(lw_all_tbl q705), rfl, rfl⟩
  · exact ⟨(lw_all_tbl q682), rfl, rfl⟩
  · exact ⟨(lw_all_tbl q683), rfl, rfl⟩
  · exact ⟨(lw_all_tbl q144), rfl, rfl⟩
  · exact ⟨(lw_all_tbl q145), rfl, rfl⟩
  · exact ⟨(lw_all_tbl q684), rfl, rfl⟩
  · exact ⟨(lw_all_tbl q689), rfl, rfl⟩
  · exact ⟨(lw_all_tbl q701), rfl, rfl⟩
  · exact ⟨(lw_all_tbl q726), rfl, rfl⟩
  · exact ⟨(lw_all_tbl q671), rfl, rfl⟩
  · exact ⟨(lw_all_tbl q727), rfl, rfl⟩
  · exact ⟨(lw_all_tbl q673), rfl, rfl⟩
  · exact ⟨(lw_all_tbl q728), rfl, rfl⟩
  · exact ⟨(lw_all_tbl q675), rfl, rfl⟩
  · exact ⟨(lw_all_tbl q685), rfl, rfl⟩
  · exact absurd hw2 (by decide)
  · exact ⟨(lw_all_tbl q687), rfl, rfl⟩
  · exact absurd hw2 (by decide)
  · exact ⟨(lw_all_tbl q677), rfl, rfl⟩
  · exact ⟨(lw_all_tbl q1712), rfl, rfl⟩
  · exact ⟨(lw_all_tbl q1713), rfl, rfl⟩
  · exact ⟨(lw_all_tbl q1714), rfl, rfl⟩
  · exact ⟨(lw_all_tbl q1050), rfl, rfl⟩
  · exact ⟨q662, rfl, rfl⟩
  · exact ⟨(lw_all_tbl q1050), rfl, rfl⟩
  · exact ⟨(lw_all_tbl q1051), rfl, rfl⟩
  · exact ⟨(lw_all_tbl q1052), rfl, rfl⟩
  · exact ⟨(lw_all_tbl q1053), rfl, rfl⟩
  · exact ⟨q664, rfl, rfl⟩
  · exact ⟨(lw_all_tbl q1053), rfl, rfl⟩
  · exact ⟨(lw_all_tbl q1054), rfl, rfl⟩
  · exact ⟨(lw_all_tbl q1055), rfl, rfl⟩
  · exact ⟨(lw_all_tbl q682), rfl, rfl⟩
  · exact ⟨q666, rfl, rfl⟩
  · exact ⟨(lw_all_tbl q1711), rfl, rfl⟩
  · exact ⟨(lw_all_tbl q1693), rfl, rfl⟩
  · exact ⟨q1704, rfl, rfl⟩
  · exact ⟨(lw_all_tbl q1705), rfl, rfl⟩
  · exact ⟨(lw_all_tbl q693), rfl, rfl⟩
  · exact ⟨(lw_all_tbl q1699), rfl, rfl⟩
  · exact ⟨(lw_all_tbl q1700), rfl, rfl⟩
  · exact ⟨(lw_all_tbl q1702), rfl, rfl⟩
  · exact ⟨(lw_all_tbl q1698), rfl, rfl⟩
  · exact absurd hw2 (by decide)
  · exact absurd hw2 (by decide)
  · exact ⟨(lw_all_tbl q680), rfl, rfl⟩
  · exact ⟨(lw_all_tbl q679), rfl, rfl⟩
  · exact ⟨(lw_all_tbl q1697), rfl, rfl⟩
