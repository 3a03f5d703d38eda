theorem d_law_law_786 : decode code 786 = .ok (.ireturn, 1) := by decide +kernel
theorem d_law_law_787 : decode code 787 = .ok (.goto 834, 3) := by decide +kernel
theorem d_law_law_790 : decode code 790 = .ok (.aload_n 1, 1) := by decide +kernel
theorem d_law_law_791 : decode code 791 = .ok (.invokevirtual 128, 3) := by decide +kernel
theorem d_law_law_794 : decode code 794 = .ok (.aload_n 2, 1) := by decide +kernel
theorem d_law_law_795 : decode code 795 = .ok (.invokevirtual 131, 3) := by decide +kernel
theorem d_law_law_798 : decode code 798 = .ok (.if_icmp .eq 823, 3) := by decide +kernel
theorem d_law_law_801 : decode code 801 = .ok (.iconst 0, 1) := by decide +kernel
theorem d_law_law_802 : decode code 802 = .ok (.ireturn, 1) := by decide +kernel
theorem d_law_law_803 : decode code 803 = .ok (.aload_n 1, 1) := by decide +kernel
theorem d_law_law_804 : decode code 804 = .ok (.aload_n 0, 1) := by decide +kernel
theorem d_law_law_805 : decode code 805 = .ok (.iload 4, 2) := by decide +kernel
theorem d_law_law_807 : decode code 807 = .ok (.iconst 1, 1) := by decide +kernel
theorem d_law_law_808 : decode code 808 = .ok (.iadd, 1) := by decide +kernel
theorem d_law_law_809 : decode code 809 = .ok (.iaload, 1) := by decide +kernel
theorem d_law_law_810 : decode code 810 = .ok (.aload_n 0, 1) := by decide +kernel
theorem d_law_law_811 : decode code 811 = .ok (.iload 4, 2) := by decide +kernel
theorem d_law_law_813 : decode code 813 = .ok (.iconst 2, 1) := by decide +kernel
theorem d_law_law_814 : decode code 814 = .ok (.iadd, 1) := by decide +kernel
theorem d_law_law_815 : decode code 815 = .ok (.iaload, 1) := by decide +kernel
theorem d_law_law_816 : decode code 816 = .ok (.i2l, 1) := by decide +kernel
theorem d_law_law_817 : decode code 817 = .ok (.bipush 32, 2) := by decide +kernel
theorem d_law_law_819 : decode code 819 = .ok (.lshl, 1) := by decide +kernel
theorem d_law_law_820 : decode code 820 = .ok (.aload_n 0, 1) := by decide +kernel
theorem d_law_law_821 : decode code 821 = .ok (.iload 4, 2) := by decide +kernel
theorem d_law_law_823 : decode code 823 = .ok (.iconst 3, 1) := by decide +kernel
theorem d_law_law_824 : decode code 824 = .ok (.iadd, 1) := by decide +kernel
theorem d_law_law_825 : decode code 825 = .ok (.iaload, 1) := by decide +kernel
theorem d_law_law_826 : decode code 826 = .ok (.i2l, 1) := by decide +kernel
theorem d_law_law_827 : decode code 827 = .ok (.ldc2_w 132, 3) := by decide +kernel
theorem d_law_law_830 : decode code 830 = .ok (.land, 1) := by decide +kernel
theorem d_law_law_831 : decode code 831 = .ok (.lor, 1) := by decide +kernel
theorem d_law_law_832 : decode code 832 = .ok (.aload_n 0, 1) := by decide +kernel
theorem d_law_law_833 : decode code 833 = .ok (.iload 4, 2) := by decide +kernel
theorem d_law_law_835 : decode code 835 = .ok (.iconst 4, 1) := by decide +kernel
theorem d_law_law_836 : decode code 836 = .ok (.iadd, 1) := by decide +kernel
theorem d_law_law_837 : decode code 837 = .ok (.iaload, 1) := by decide +kernel
theorem d_law_law_838 : decode code 838 = .ok (.aload_n 0, 1) := by decide +kernel
theorem d_law_law_839 : decode code 839 = .ok (.iload 4, 2) := by decide +kernel
theorem d_law_law_841 : decode code 841 = .ok (.iconst 5, 1) := by decide +kernel
theorem d_law_law_842 : decode code 842 = .ok (.iadd, 1) := by decide +kernel
theorem d_law_law_843 : decode code 843 = .ok (.iaload, 1) := by decide +kernel
theorem d_law_law_844 : decode code 844 = .ok (.aload_n 0, 1) := by decide +kernel
theorem d_law_law_845 : decode code 845 = .ok (.iload 4, 2) := by decide +kernel
theorem d_law_law_847 : decode code 847 = .ok (.bipush 6, 2) := by decide +kernel
theorem d_law_law_849 : decode code 849 = .ok (.iadd, 1) := by decide +kernel
theorem d_law_law_850 : decode code 850 = .ok (.iaload, 1) := by decide +kernel
theorem d_law_law_851 : decode code 851 = .ok (.aload_n 0, 1) := by decide +kernel
theorem d_law_law_852 : decode code 852 = .ok (.iload 4, 2) := by decide +kernel
theorem d_law_law_854 : decode code 854 = .ok (.bipush 7, 2) := by decide +kernel
theorem d_law_law_856 : decode code 856 = .ok (.iadd, 1) := by decide +kernel
theorem d_law_law_857 : decode code 857 = .ok (.iaload, 1) := by decide +kernel
theorem d_law_law_858 : decode code 858 = .ok (.aload_n 3, 1) := by decide +kernel
theorem d_law_law_859 : decode code 859 = .ok (.invokestatic 134, 3) := by decide +kernel
theorem d_law_law_862 : decode code 862 = .ok (.istore 5, 2) := by decide +kernel
theorem d_law_law_864 : decode code 864 = .ok (.aload_n 2, 1) := by decide +kernel
theorem d_law_law_865 : decode code 865 = .ok (.aload_n 0, 1) := by decide +kernel
theorem d_law_law_866 : decode code 866 = .ok (.iload 4, 2) := by decide +kernel
theorem d_law_law_868 : decode code 868 = .ok (.iconst 1, 1) := by decide +kernel
theorem d_law_law_869 : decode code 869 = .ok (.iadd, 1) := by decide +kernel
theorem d_law_law_870 : decode code 870 = .ok (.iaload, 1) := by decide +kernel
theorem d_law_law_871 : decode code 871 = .ok (.aload_n 0, 1) := by decide +kernel
theorem d_law_law_872 : decode code 872 = .ok (.iload 4, 2) := by decide +kernel
theorem d_law_law_874 : decode code 874 = .ok (.iconst 2, 1) := by decide +kernel
theorem d_law_law_875 : decode code 875 = .ok (.iadd, 1) := by decide +kernel
theorem d_law_law_876 : decode code 876 = .ok (.iaload, 1) := by decide +kernel
theorem d_law_law_877 : decode code 877 = .ok (.i2l, 1) := by decide +kernel
theorem d_law_law_878 : decode code 878 = .ok (.bipush 32, 2) := by decide +kernel
theorem d_law_law_880 : decode code 880 = .ok (.lshl, 1) := by decide +kernel
theorem d_law_law_881 : decode code 881 = .ok (.aload_n 0, 1) := by decide +kernel
theorem d_law_law_882 : decode code 882 = .ok (.iload 4, 2) := by decide +kernel
theorem d_law_law_884 : decode code 884 = .ok (.iconst 3, 1) := by decide +kernel
theorem d_law_law_885 : decode code 885 = .ok (.iadd, 1) := by decide +kernel
theorem d_law_law_886 : decode code 886 = .ok (.iaload, 1) := by decide +kernel
theorem d_law_law_887 : decode code 887 = .ok (.i2l, 1) := by decide +kernel
theorem d_law_law_888 : decode code 888 = .ok (.ldc2_w 132, 3) := by decide +kernel
theorem d_law_law_891 : decode code 891 = .ok (.land, 1) := by decide +kernel
theorem d_law_law_892 : decode code 892 = .ok (.lor, 1) := by decide +kernel
theorem d_law_law_893 : decode code 893 = .ok (.aload_n 0, 1) := by decide +kernel
theorem d_law_law_894 : decode code 894 = .ok (.iload 4, 2) := by decide +kernel
theorem d_law_law_896 : decode code 896 = .ok (.iconst 4, 1) := by decide +kernel
theorem d_law_law_897 : decode code 897 = .ok (.iadd, 1) := by decide +kernel
theorem d_law_law_898 : decode code 898 = .ok (.iaload, 1) := by decide +kernel
theorem d_law_law_899 : decode code 899 = .ok (.aload_n 0, 1) := by decide +kernel
theorem d_law_law_900 : decode code 900 = .ok (.iload 4, 2) := by decide +kernel
theorem d_law_law_902 : decode code 902 = .ok (.iconst 5, 1) := by decide +kernel
theorem d_law_law_903 : decode code 903 = .ok (.iadd, 1) := by decide +kernel
theorem d_law_law_904 : decode code 904 = .ok (.iaload, 1) := by decide +kernel
theorem d_law_law_905 : decode code 905 = .ok (.aload_n 0, 1) := by decide +kernel
theorem d_law_law_906 : decode code 906 = .ok (.iload 4, 2) := by decide +kernel
theorem d_law_law_908 : decode code 908 = .ok (.bipush 6, 2) := by decide +kernel
theorem d_law_law_910 : decode code 910 = .ok (.iadd, 1) := by decide +kernel
theorem d_law_law_911 : decode code 911 = .ok (.iaload, 1) := by decide +kernel
theorem d_law_law_912 : decode code 912 = .ok (.aload_n 0, 1) := by decide +kernel
theorem d_law_law_913 : decode code 913 = .ok (.iload 4, 2) := by decide +kernel
theorem d_law_law_915 : decode code 915 = .ok (.bipush 7, 2) := by decide +kernel
theorem d_law_law_917 : decode code 917 = .ok (.iadd, 1) := by decide +kernel
theorem d_law_law_918 : decode code 918 = .ok (.iaload, 1) := by decide +kernel
theorem d_law_law_919 : decode code 919 = .ok (.invokevirtual 137, 3) := by decide +kernel
theorem d_law_law_922 : decode code 922 = .ok (.istore 6, 2) := by decide +kernel
theorem d_law_law_924 : decode code 924 = .ok (.aload_n 2, 1) := by decide +kernel
theorem d_law_law_925 : decode code 925 = .ok (.invokevirtual 97, 3) := by decide +kernel
theorem d_law_law_928 : decode code 928 = .ok (.iload 5, 2) := by decide +kernel
theorem d_law_law_930 : decode code 930 = .ok (.if_icmp .eq 5, 3) := by decide +kernel
theorem d_law_law_933 : decode code 933 = .ok (.iconst 0, 1) := by decide +kernel
theorem d_law_law_934 : decode code 934 = .ok (.ireturn, 1) := by decide +kernel
theorem d_law_law_935 : decode code 935 = .ok (.iload 5, 2) := by decide +kernel
theorem d_law_law_937 : decode code 937 = .ok (.ifCond .ne 15, 3) := by decide +kernel
theorem d_law_law_940 : decode code 940 = .ok (.aload_n 3, 1) := by decide +kernel
theorem d_law_law_941 : decode code 941 = .ok (.iconst 0, 1) := by decide +kernel
theorem d_law_law_942 : decode code 942 = .ok (.laload, 1) := by decide +kernel
theorem d_law_law_943 : decode code 943 = .ok (.iload 6, 2) := by decide +kernel
theorem d_law_law_945 : decode code 945 = .ok (.i2l, 1) := by decide +kernel
theorem d_law_law_946 : decode code 946 = .ok (.lcmp, 1) := by decide +kernel
theorem d_law_law_947 : decode code 947 = .ok (.ifCond .eq 5, 3) := by decide +kernel
theorem d_law_law_950 : decode code 950 = .ok (.iconst 0, 1) := by decide +kernel
theorem d_law_law_951 : decode code 951 = .ok (.ireturn, 1) := by decide +kernel
theorem d_law_law_952 : decode code 952 = .ok (.goto 669, 3) := by decide +kernel
theorem d_law_law_955 : decode code 955 = .ok (.aload_n 1, 1) := by decide +kernel
theorem d_law_law_956 : decode code 956 = .ok (.aload_n 0, 1) := by decide +kernel
theorem d_law_law_957 : decode code 957 = .ok (.iload 4, 2) := by decide +kernel
theorem d_law_law_959 : decode code 959 = .ok (.iconst 1, 1) := by decide +kernel
theorem d_law_law_960 : decode code 960 = .ok (.iadd, 1) := by decide +kernel
theorem d_law_law_961 : decode code 961 = .ok (.iaload, 1) := by decide +kernel
theorem d_law_law_962 : decode code 962 = .ok (.aload_n 0, 1) := by decide +kernel
theorem d_law_law_963 : decode code 963 = .ok (.iload 4, 2) := by decide +kernel
theorem d_law_law_965 : decode code 965 = .ok (.iconst 2, 1) := by decide +kernel
theorem d_law_law_966 : decode code 966 = .ok (.iadd, 1) := by decide +kernel
theorem d_law_law_967 : decode code 967 = .ok (.iaload, 1) := by decide +kernel
theorem d_law_law_968 : decode code 968 = .ok (.aload_n 3, 1) := by decide +kernel
theorem d_law_law_969 : decode code 969 = .ok (.invokestatic 138, 3) := by decide +kernel
theorem d_law_law_972 : decode code 972 = .ok (.istore 5, 2) := by decide +kernel
theorem d_law_law_974 : decode code 974 = .ok (.aload_n 2, 1) := by decide +kernel
theorem d_law_law_975 : decode code 975 = .ok (.aload_n 0, 1) := by decide +kernel
theorem d_law_law_976 : decode code 976 = .ok (.iload 4, 2) := by decide +kernel
theorem d_law_law_978 : decode code 978 = .ok (.iconst 1, 1) := by decide +kernel
theorem d_law_law_979 : decode code 979 = .ok (.iadd, 1) := by decide +kernel
theorem d_law_law_980 : decode code 980 = .ok (.iaload, 1) := by decide +kernel
theorem d_law_law_981 : decode code 981 = .ok (.aload_n 0, 1) := by decide +kernel
theorem d_law_law_982 : decode code 982 = .ok (.iload 4, 2) := by decide +kernel
theorem d_law_law_984 : decode code 984 = .ok (.iconst 2, 1) := by decide +kernel
theorem d_law_law_985 : decode code 985 = .ok (.iadd, 1) := by decide +kernel
theorem d_law_law_986 : decode code 986 = .ok (.iaload, 1) := by decide +kernel
theorem d_law_law_987 : decode code 987 = .ok (.invokevirtual 140, 3) := by decide +kernel
theorem d_law_law_990 : decode code 990 = .ok (.lstore 6, 2) := by decide +kernel
theorem d_law_law_992 : decode code 992 = .ok (.aload_n 2, 1) := by decide +kernel
theorem d_law_law_993 : decode code 993 = .ok (.invokevirtual 97, 3) := by decide +kernel
theorem d_law_law_996 : decode code 996 = .ok (.iload 5, 2) := by decide +kernel
theorem d_law_law_998 : decode code 998 = .ok (.if_icmp .eq 5, 3) := by decide +kernel
theorem d_law_law_1001 : decode code 1001 = .ok (.iconst 0, 1) := by decide +kernel
